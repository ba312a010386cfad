/-! FILLS; the wall two rows of values -/
set_option maxRecDepth 100000
theorem hs_J0_init : yJ0_init.cls ≠ "java/lang/invoke/MethodHandle" ∧ yJ0_init.cls ≠ "java/lang/invoke/VarHandle" ∧ (parseMethodDescriptor yJ0_init.desc).map (fun d => d.parameters.length) = some 1 := by decide +kernel
theorem hv_J0_init : yJ0_init.cls = RJ0 ∧ yJ0_init.cls ≠ "java/lang/invoke/MethodHandle" ∧ yJ0_init.cls ≠ "java/lang/invoke/VarHandle" ∧ (parseMethodDescriptor yJ0_init.desc).map (fun d => d.parameters.length) = some 1 := ⟨rfl, hs_J0_init⟩
theorem hs_J0_init_2 : yJ0_init_2.cls ≠ "java/lang/invoke/MethodHandle" ∧ yJ0_init_2.cls ≠ "java/lang/invoke/VarHandle" ∧ (parseMethodDescriptor yJ0_init_2.desc).map (fun d => d.parameters.length) = some 0 := by decide +kernel
theorem hv_J0_init_2 : yJ0_init_2.cls = RJ0 ∧ yJ0_init_2.cls ≠ "java/lang/invoke/MethodHandle" ∧ yJ0_init_2.cls ≠ "java/lang/invoke/VarHandle" ∧ (parseMethodDescriptor yJ0_init_2.desc).map (fun d => d.parameters.length) = some 0 := ⟨rfl, hs_J0_init_2⟩
theorem hs_J0_init_3 : yJ0_init_3.cls ≠ "java/lang/invoke/MethodHandle" ∧ yJ0_init_3.cls ≠ "java/lang/invoke/VarHandle" ∧ (parseMethodDescriptor yJ0_init_3.desc).map (fun d => d.parameters.length) = some 4 := by decide +kernel
theorem hv_J0_init_3 : yJ0_init_3.cls = RJ0 ∧ yJ0_init_3.cls ≠ "java/lang/invoke/MethodHandle" ∧ yJ0_init_3.cls ≠ "java/lang/invoke/VarHandle" ∧ (parseMethodDescriptor yJ0_init_3.desc).map (fun d => d.parameters.length) = some 4 := ⟨rfl, hs_J0_init_3⟩
theorem hs_J1_init : yJ1_init.cls ≠ "java/lang/invoke/MethodHandle" ∧ yJ1_init.cls ≠ "java/lang/invoke/VarHandle" ∧ (parseMethodDescriptor yJ1_init.desc).map (fun d => d.parameters.length) = some 1 := by decide +kernel
theorem hv_J1_init : yJ1_init.cls = RJ1 ∧ yJ1_init.cls ≠ "java/lang/invoke/MethodHandle" ∧ yJ1_init.cls ≠ "java/lang/invoke/VarHandle" ∧ (parseMethodDescriptor yJ1_init.desc).map (fun d => d.parameters.length) = some 1 := ⟨rfl, hs_J1_init⟩
theorem hs_J1_init_2 : yJ1_init_2.cls ≠ "java/lang/invoke/MethodHandle" ∧ yJ1_init_2.cls ≠ "java/lang/invoke/VarHandle" ∧ (parseMethodDescriptor yJ1_init_2.desc).map (fun d => d.parameters.length) = some 4 := by decide +kernel
theorem hv_J1_init_2 : yJ1_init_2.cls = RJ1 ∧ yJ1_init_2.cls ≠ "java/lang/invoke/MethodHandle" ∧ yJ1_init_2.cls ≠ "java/lang/invoke/VarHandle" ∧ (parseMethodDescriptor yJ1_init_2.desc).map (fun d => d.parameters.length) = some 4 := ⟨rfl, hs_J1_init_2⟩
theorem hs_J1_init_3 : yJ1_init_3.cls ≠ "java/lang/invoke/MethodHandle" ∧ yJ1_init_3.cls ≠ "java/lang/invoke/VarHandle" ∧ (parseMethodDescriptor yJ1_init_3.desc).map (fun d => d.parameters.length) = some 0 := by decide +kernel
theorem hv_J1_init_3 : yJ1_init_3.cls = RJ1 ∧ yJ1_init_3.cls ≠ "java/lang/invoke/MethodHandle" ∧ yJ1_init_3.cls ≠ "java/lang/invoke/VarHandle" ∧ (parseMethodDescriptor yJ1_init_3.desc).map (fun d => d.parameters.length) = some 0 := ⟨rfl, hs_J1_init_3⟩
theorem hs_J10_min : yJ10_min.cls ≠ "java/lang/invoke/MethodHandle" ∧ yJ10_min.cls ≠ "java/lang/invoke/VarHandle" ∧ (parseMethodDescriptor yJ10_min.desc).map (fun d => d.parameters.length) = some 2 := by decide +kernel
theorem hv_J10_min : yJ10_min.cls = RJ10 ∧ yJ10_min.cls ≠ "java/lang/invoke/MethodHandle" ∧ yJ10_min.cls ≠ "java/lang/invoke/VarHandle" ∧ (parseMethodDescriptor yJ10_min.desc).map (fun d => d.parameters.length) = some 2 := ⟨rfl, hs_J10_min⟩
theorem hs_J10_max : yJ10_max.cls ≠ "java/lang/invoke/MethodHandle" ∧ yJ10_max.cls ≠ "java/lang/invoke/VarHandle" ∧ (parseMethodDescriptor yJ10_max.desc).map (fun d => d.parameters.length) = some 2 := by decide +kernel
theorem hv_J10_max : yJ10_max.cls = RJ10 ∧ yJ10_max.cls ≠ "java/lang/invoke/MethodHandle" ∧ yJ10_max.cls ≠ "java/lang/invoke/VarHandle" ∧ (parseMethodDescriptor yJ10_max.desc).map (fun d => d.parameters.length) = some 2 := ⟨rfl, hs_J10_max⟩
theorem hs_J11_fill : yJ11_fill.cls ≠ "java/lang/invoke/MethodHandle" ∧ yJ11_fill.cls ≠ "java/lang/invoke/VarHandle" ∧ (parseMethodDescriptor yJ11_fill.desc).map (fun d => d.parameters.length) = some 2 := by decide +kernel
theorem hv_J11_fill : yJ11_fill.cls = RJ11 ∧ yJ11_fill.cls ≠ "java/lang/invoke/MethodHandle" ∧ yJ11_fill.cls ≠ "java/lang/invoke/VarHandle" ∧ (parseMethodDescriptor yJ11_fill.desc).map (fun d => d.parameters.length) = some 2 := ⟨rfl, hs_J11_fill⟩
theorem hs_J11_copyOf : yJ11_copyOf.cls ≠ "java/lang/invoke/MethodHandle" ∧ yJ11_copyOf.cls ≠ "java/lang/invoke/VarHandle" ∧ (parseMethodDescriptor yJ11_copyOf.desc).map (fun d => d.parameters.length) = some 2 := by decide +kernel
theorem hv_J11_copyOf : yJ11_copyOf.cls = RJ11 ∧ yJ11_copyOf.cls ≠ "java/lang/invoke/MethodHandle" ∧ yJ11_copyOf.cls ≠ "java/lang/invoke/VarHandle" ∧ (parseMethodDescriptor yJ11_copyOf.desc).map (fun d => d.parameters.length) = some 2 := ⟨rfl, hs_J11_copyOf⟩
theorem hs_J11_copyOfRange : yJ11_copyOfRange.cls ≠ "java/lang/invoke/MethodHandle" ∧ yJ11_copyOfRange.cls ≠ "java/lang/invoke/VarHandle" ∧ (parseMethodDescriptor yJ11_copyOfRange.desc).map (fun d => d.parameters.length) = some 3 := by decide +kernel
theorem hv_J11_copyOfRange : yJ11_copyOfRange.cls = RJ11 ∧ yJ11_copyOfRange.cls ≠ "java/lang/invoke/MethodHandle" ∧ yJ11_copyOfRange.cls ≠ "java/lang/invoke/VarHandle" ∧ (parseMethodDescriptor yJ11_copyOfRange.desc).map (fun d => d.parameters.length) = some 3 := ⟨rfl, hs_J11_copyOfRange⟩
theorem hs_J11_copyOfRangeByte : yJ11_copyOfRangeByte.cls ≠ "java/lang/invoke/MethodHandle" ∧ yJ11_copyOfRangeByte.cls ≠ "java/lang/invoke/VarHandle" ∧ (parseMethodDescriptor yJ11_copyOfRangeByte.desc).map (fun d => d.parameters.length) = some 3 := by decide +kernel
theorem hv_J11_copyOfRangeByte : yJ11_copyOfRangeByte.cls = RJ11 ∧ yJ11_copyOfRangeByte.cls ≠ "java/lang/invoke/MethodHandle" ∧ yJ11_copyOfRangeByte.cls ≠ "java/lang/invoke/VarHandle" ∧ (parseMethodDescriptor yJ11_copyOfRangeByte.desc).map (fun d => d.parameters.length) = some 3 := ⟨rfl, hs_J11_copyOfRangeByte⟩
theorem hs_J11_checkLength : yJ11_checkLength.cls ≠ "java/lang/invoke/MethodHandle" ∧ yJ11_checkLength.cls ≠ "java/lang/invoke/VarHandle" ∧ (parseMethodDescriptor yJ11_checkLength.desc).map (fun d => d.parameters.length) = some 2 := by decide +kernel
theorem hv_J11_checkLength : yJ11_checkLength.cls = RJ11 ∧ yJ11_checkLength.cls ≠ "java/lang/invoke/MethodHandle" ∧ yJ11_checkLength.cls ≠ "java/lang/invoke/VarHandle" ∧ (parseMethodDescriptor yJ11_checkLength.desc).map (fun d => d.parameters.length) = some 2 := ⟨rfl, hs_J11_checkLength⟩
theorem hs_J11_fill_2 : yJ11_fill_2.cls ≠ "java/lang/invoke/MethodHandle" ∧ yJ11_fill_2.cls ≠ "java/lang/invoke/VarHandle" ∧ (parseMethodDescriptor yJ11_fill_2.desc).map (fun d => d.parameters.length) = some 2 := by decide +kernel
theorem hv_J11_fill_2 : yJ11_fill_2.cls = RJ11 ∧ yJ11_fill_2.cls ≠ "java/lang/invoke/MethodHandle" ∧ yJ11_fill_2.cls ≠ "java/lang/invoke/VarHandle" ∧ (parseMethodDescriptor yJ11_fill_2.desc).map (fun d => d.parameters.length) = some 2 := ⟨rfl, hs_J11_fill_2⟩
theorem hs_J12_init : yJ12_init.cls ≠ "java/lang/invoke/MethodHandle" ∧ yJ12_init.cls ≠ "java/lang/invoke/VarHandle" ∧ (parseMethodDescriptor yJ12_init.desc).map (fun d => d.parameters.length) = some 1 := by decide +kernel
theorem hv_J12_init : yJ12_init.cls = RJ12 ∧ yJ12_init.cls ≠ "java/lang/invoke/MethodHandle" ∧ yJ12_init.cls ≠ "java/lang/invoke/VarHandle" ∧ (parseMethodDescriptor yJ12_init.desc).map (fun d => d.parameters.length) = some 1 := ⟨rfl, hs_J12_init⟩
theorem hs_J12_append : yJ12_append.cls ≠ "java/lang/invoke/MethodHandle" ∧ yJ12_append.cls ≠ "java/lang/invoke/VarHandle" ∧ (parseMethodDescriptor yJ12_append.desc).map (fun d => d.parameters.length) = some 1 := by decide +kernel
theorem hv_J12_append : yJ12_append.cls = RJ12 ∧ yJ12_append.cls ≠ "java/lang/invoke/MethodHandle" ∧ yJ12_append.cls ≠ "java/lang/invoke/VarHandle" ∧ (parseMethodDescriptor yJ12_append.desc).map (fun d => d.parameters.length) = some 1 := ⟨rfl, hs_J12_append⟩
theorem hs_J12_ensureCapacityInternal : yJ12_ensureCapacityInternal.cls ≠ "java/lang/invoke/MethodHandle" ∧ yJ12_ensureCapacityInternal.cls ≠ "java/lang/invoke/VarHandle" ∧ (parseMethodDescriptor yJ12_ensureCapacityInternal.desc).map (fun d => d.parameters.length) = some 1 := by decide +kernel
theorem hv_J12_ensureCapacityInternal : yJ12_ensureCapacityInternal.cls = RJ12 ∧ yJ12_ensureCapacityInternal.cls ≠ "java/lang/invoke/MethodHandle" ∧ yJ12_ensureCapacityInternal.cls ≠ "java/lang/invoke/VarHandle" ∧ (parseMethodDescriptor yJ12_ensureCapacityInternal.desc).map (fun d => d.parameters.length) = some 1 := ⟨rfl, hs_J12_ensureCapacityInternal⟩
theorem hs_J12_newCapacity : yJ12_newCapacity.cls ≠ "java/lang/invoke/MethodHandle" ∧ yJ12_newCapacity.cls ≠ "java/lang/invoke/VarHandle" ∧ (parseMethodDescriptor yJ12_newCapacity.desc).map (fun d => d.parameters.length) = some 1 := by decide +kernel
theorem hv_J12_newCapacity : yJ12_newCapacity.cls = RJ12 ∧ yJ12_newCapacity.cls ≠ "java/lang/invoke/MethodHandle" ∧ yJ12_newCapacity.cls ≠ "java/lang/invoke/VarHandle" ∧ (parseMethodDescriptor yJ12_newCapacity.desc).map (fun d => d.parameters.length) = some 1 := ⟨rfl, hs_J12_newCapacity⟩
theorem hs_J12_isLatin1 : yJ12_isLatin1.cls ≠ "java/lang/invoke/MethodHandle" ∧ yJ12_isLatin1.cls ≠ "java/lang/invoke/VarHandle" ∧ (parseMethodDescriptor yJ12_isLatin1.desc).map (fun d => d.parameters.length) = some 0 := by decide +kernel
theorem hv_J12_isLatin1 : yJ12_isLatin1.cls = RJ12 ∧ yJ12_isLatin1.cls ≠ "java/lang/invoke/MethodHandle" ∧ yJ12_isLatin1.cls ≠ "java/lang/invoke/VarHandle" ∧ (parseMethodDescriptor yJ12_isLatin1.desc).map (fun d => d.parameters.length) = some 0 := ⟨rfl, hs_J12_isLatin1⟩
theorem hs_J12_inflate : yJ12_inflate.cls ≠ "java/lang/invoke/MethodHandle" ∧ yJ12_inflate.cls ≠ "java/lang/invoke/VarHandle" ∧ (parseMethodDescriptor yJ12_inflate.desc).map (fun d => d.parameters.length) = some 0 := by decide +kernel
theorem hv_J12_inflate : yJ12_inflate.cls = RJ12 ∧ yJ12_inflate.cls ≠ "java/lang/invoke/MethodHandle" ∧ yJ12_inflate.cls ≠ "java/lang/invoke/VarHandle" ∧ (parseMethodDescriptor yJ12_inflate.desc).map (fun d => d.parameters.length) = some 0 := ⟨rfl, hs_J12_inflate⟩
theorem hs_J12_getValue : yJ12_getValue.cls ≠ "java/lang/invoke/MethodHandle" ∧ yJ12_getValue.cls ≠ "java/lang/invoke/VarHandle" ∧ (parseMethodDescriptor yJ12_getValue.desc).map (fun d => d.parameters.length) = some 0 := by decide +kernel
theorem hv_J12_getValue : yJ12_getValue.cls = RJ12 ∧ yJ12_getValue.cls ≠ "java/lang/invoke/MethodHandle" ∧ yJ12_getValue.cls ≠ "java/lang/invoke/VarHandle" ∧ (parseMethodDescriptor yJ12_getValue.desc).map (fun d => d.parameters.length) = some 0 := ⟨rfl, hs_J12_getValue⟩
theorem hs_J12_length : yJ12_length.cls ≠ "java/lang/invoke/MethodHandle" ∧ yJ12_length.cls ≠ "java/lang/invoke/VarHandle" ∧ (parseMethodDescriptor yJ12_length.desc).map (fun d => d.parameters.length) = some 0 := by decide +kernel
theorem hv_J12_length : yJ12_length.cls = RJ12 ∧ yJ12_length.cls ≠ "java/lang/invoke/MethodHandle" ∧ yJ12_length.cls ≠ "java/lang/invoke/VarHandle" ∧ (parseMethodDescriptor yJ12_length.desc).map (fun d => d.parameters.length) = some 0 := ⟨rfl, hs_J12_length⟩
theorem hs_J13_init : yJ13_init.cls ≠ "java/lang/invoke/MethodHandle" ∧ yJ13_init.cls ≠ "java/lang/invoke/VarHandle" ∧ (parseMethodDescriptor yJ13_init.desc).map (fun d => d.parameters.length) = some 0 := by decide +kernel
theorem hv_J13_init : yJ13_init.cls = RJ13 ∧ yJ13_init.cls ≠ "java/lang/invoke/MethodHandle" ∧ yJ13_init.cls ≠ "java/lang/invoke/VarHandle" ∧ (parseMethodDescriptor yJ13_init.desc).map (fun d => d.parameters.length) = some 0 := ⟨rfl, hs_J13_init⟩
theorem hs_J13_append : yJ13_append.cls ≠ "java/lang/invoke/MethodHandle" ∧ yJ13_append.cls ≠ "java/lang/invoke/VarHandle" ∧ (parseMethodDescriptor yJ13_append.desc).map (fun d => d.parameters.length) = some 1 := by decide +kernel
theorem hv_J13_append : yJ13_append.cls = RJ13 ∧ yJ13_append.cls ≠ "java/lang/invoke/MethodHandle" ∧ yJ13_append.cls ≠ "java/lang/invoke/VarHandle" ∧ (parseMethodDescriptor yJ13_append.desc).map (fun d => d.parameters.length) = some 1 := ⟨rfl, hs_J13_append⟩
theorem hs_J13_toString : yJ13_toString.cls ≠ "java/lang/invoke/MethodHandle" ∧ yJ13_toString.cls ≠ "java/lang/invoke/VarHandle" ∧ (parseMethodDescriptor yJ13_toString.desc).map (fun d => d.parameters.length) = some 0 := by decide +kernel
theorem hv_J13_toString : yJ13_toString.cls = RJ13 ∧ yJ13_toString.cls ≠ "java/lang/invoke/MethodHandle" ∧ yJ13_toString.cls ≠ "java/lang/invoke/VarHandle" ∧ (parseMethodDescriptor yJ13_toString.desc).map (fun d => d.parameters.length) = some 0 := ⟨rfl, hs_J13_toString⟩
theorem hs_J13_length : yJ13_length.cls ≠ "java/lang/invoke/MethodHandle" ∧ yJ13_length.cls ≠ "java/lang/invoke/VarHandle" ∧ (parseMethodDescriptor yJ13_length.desc).map (fun d => d.parameters.length) = some 0 := by decide +kernel
theorem hv_J13_length : yJ13_length.cls = RJ13 ∧ yJ13_length.cls ≠ "java/lang/invoke/MethodHandle" ∧ yJ13_length.cls ≠ "java/lang/invoke/VarHandle" ∧ (parseMethodDescriptor yJ13_length.desc).map (fun d => d.parameters.length) = some 0 := ⟨rfl, hs_J13_length⟩
theorem hs_J14_newBytesFor : yJ14_newBytesFor.cls ≠ "java/lang/invoke/MethodHandle" ∧ yJ14_newBytesFor.cls ≠ "java/lang/invoke/VarHandle" ∧ (parseMethodDescriptor yJ14_newBytesFor.desc).map (fun d => d.parameters.length) = some 1 := by decide +kernel
theorem hv_J14_newBytesFor : yJ14_newBytesFor.cls = RJ14 ∧ yJ14_newBytesFor.cls ≠ "java/lang/invoke/MethodHandle" ∧ yJ14_newBytesFor.cls ≠ "java/lang/invoke/VarHandle" ∧ (parseMethodDescriptor yJ14_newBytesFor.desc).map (fun d => d.parameters.length) = some 1 := ⟨rfl, hs_J14_newBytesFor⟩
theorem hs_J14_newBytesLength : yJ14_newBytesLength.cls ≠ "java/lang/invoke/MethodHandle" ∧ yJ14_newBytesLength.cls ≠ "java/lang/invoke/VarHandle" ∧ (parseMethodDescriptor yJ14_newBytesLength.desc).map (fun d => d.parameters.length) = some 1 := by decide +kernel
theorem hv_J14_newBytesLength : yJ14_newBytesLength.cls = RJ14 ∧ yJ14_newBytesLength.cls ≠ "java/lang/invoke/MethodHandle" ∧ yJ14_newBytesLength.cls ≠ "java/lang/invoke/VarHandle" ∧ (parseMethodDescriptor yJ14_newBytesLength.desc).map (fun d => d.parameters.length) = some 1 := ⟨rfl, hs_J14_newBytesLength⟩
theorem hs_J14_inflate : yJ14_inflate.cls ≠ "java/lang/invoke/MethodHandle" ∧ yJ14_inflate.cls ≠ "java/lang/invoke/VarHandle" ∧ (parseMethodDescriptor yJ14_inflate.desc).map (fun d => d.parameters.length) = some 5 := by decide +kernel
theorem hv_J14_inflate : yJ14_inflate.cls = RJ14 ∧ yJ14_inflate.cls ≠ "java/lang/invoke/MethodHandle" ∧ yJ14_inflate.cls ≠ "java/lang/invoke/VarHandle" ∧ (parseMethodDescriptor yJ14_inflate.desc).map (fun d => d.parameters.length) = some 5 := ⟨rfl, hs_J14_inflate⟩
theorem hs_J14_checkBoundsOffCount : yJ14_checkBoundsOffCount.cls ≠ "java/lang/invoke/MethodHandle" ∧ yJ14_checkBoundsOffCount.cls ≠ "java/lang/invoke/VarHandle" ∧ (parseMethodDescriptor yJ14_checkBoundsOffCount.desc).map (fun d => d.parameters.length) = some 3 := by decide +kernel
theorem hv_J14_checkBoundsOffCount : yJ14_checkBoundsOffCount.cls = RJ14 ∧ yJ14_checkBoundsOffCount.cls ≠ "java/lang/invoke/MethodHandle" ∧ yJ14_checkBoundsOffCount.cls ≠ "java/lang/invoke/VarHandle" ∧ (parseMethodDescriptor yJ14_checkBoundsOffCount.desc).map (fun d => d.parameters.length) = some 3 := ⟨rfl, hs_J14_checkBoundsOffCount⟩
theorem hs_J14_length : yJ14_length.cls ≠ "java/lang/invoke/MethodHandle" ∧ yJ14_length.cls ≠ "java/lang/invoke/VarHandle" ∧ (parseMethodDescriptor yJ14_length.desc).map (fun d => d.parameters.length) = some 1 := by decide +kernel
theorem hv_J14_length : yJ14_length.cls = RJ14 ∧ yJ14_length.cls ≠ "java/lang/invoke/MethodHandle" ∧ yJ14_length.cls ≠ "java/lang/invoke/VarHandle" ∧ (parseMethodDescriptor yJ14_length.desc).map (fun d => d.parameters.length) = some 1 := ⟨rfl, hs_J14_length⟩
theorem hs_J14_putChar : yJ14_putChar.cls ≠ "java/lang/invoke/MethodHandle" ∧ yJ14_putChar.cls ≠ "java/lang/invoke/VarHandle" ∧ (parseMethodDescriptor yJ14_putChar.desc).map (fun d => d.parameters.length) = some 3 := by decide +kernel
theorem hv_J14_putChar : yJ14_putChar.cls = RJ14 ∧ yJ14_putChar.cls ≠ "java/lang/invoke/MethodHandle" ∧ yJ14_putChar.cls ≠ "java/lang/invoke/VarHandle" ∧ (parseMethodDescriptor yJ14_putChar.desc).map (fun d => d.parameters.length) = some 3 := ⟨rfl, hs_J14_putChar⟩
theorem hs_J14_putCharSB : yJ14_putCharSB.cls ≠ "java/lang/invoke/MethodHandle" ∧ yJ14_putCharSB.cls ≠ "java/lang/invoke/VarHandle" ∧ (parseMethodDescriptor yJ14_putCharSB.desc).map (fun d => d.parameters.length) = some 3 := by decide +kernel
theorem hv_J14_putCharSB : yJ14_putCharSB.cls = RJ14 ∧ yJ14_putCharSB.cls ≠ "java/lang/invoke/MethodHandle" ∧ yJ14_putCharSB.cls ≠ "java/lang/invoke/VarHandle" ∧ (parseMethodDescriptor yJ14_putCharSB.desc).map (fun d => d.parameters.length) = some 3 := ⟨rfl, hs_J14_putCharSB⟩
theorem hs_J14_checkIndex : yJ14_checkIndex.cls ≠ "java/lang/invoke/MethodHandle" ∧ yJ14_checkIndex.cls ≠ "java/lang/invoke/VarHandle" ∧ (parseMethodDescriptor yJ14_checkIndex.desc).map (fun d => d.parameters.length) = some 2 := by decide +kernel
theorem hv_J14_checkIndex : yJ14_checkIndex.cls = RJ14 ∧ yJ14_checkIndex.cls ≠ "java/lang/invoke/MethodHandle" ∧ yJ14_checkIndex.cls ≠ "java/lang/invoke/VarHandle" ∧ (parseMethodDescriptor yJ14_checkIndex.desc).map (fun d => d.parameters.length) = some 2 := ⟨rfl, hs_J14_checkIndex⟩
theorem hs_J14_compress : yJ14_compress.cls ≠ "java/lang/invoke/MethodHandle" ∧ yJ14_compress.cls ≠ "java/lang/invoke/VarHandle" ∧ (parseMethodDescriptor yJ14_compress.desc).map (fun d => d.parameters.length) = some 3 := by decide +kernel
theorem hv_J14_compress : yJ14_compress.cls = RJ14 ∧ yJ14_compress.cls ≠ "java/lang/invoke/MethodHandle" ∧ yJ14_compress.cls ≠ "java/lang/invoke/VarHandle" ∧ (parseMethodDescriptor yJ14_compress.desc).map (fun d => d.parameters.length) = some 3 := ⟨rfl, hs_J14_compress⟩
theorem hs_J14_compress_2 : yJ14_compress_2.cls ≠ "java/lang/invoke/MethodHandle" ∧ yJ14_compress_2.cls ≠ "java/lang/invoke/VarHandle" ∧ (parseMethodDescriptor yJ14_compress_2.desc).map (fun d => d.parameters.length) = some 5 := by decide +kernel
theorem hv_J14_compress_2 : yJ14_compress_2.cls = RJ14 ∧ yJ14_compress_2.cls ≠ "java/lang/invoke/MethodHandle" ∧ yJ14_compress_2.cls ≠ "java/lang/invoke/VarHandle" ∧ (parseMethodDescriptor yJ14_compress_2.desc).map (fun d => d.parameters.length) = some 5 := ⟨rfl, hs_J14_compress_2⟩
theorem hs_J14_getChar : yJ14_getChar.cls ≠ "java/lang/invoke/MethodHandle" ∧ yJ14_getChar.cls ≠ "java/lang/invoke/VarHandle" ∧ (parseMethodDescriptor yJ14_getChar.desc).map (fun d => d.parameters.length) = some 2 := by decide +kernel
theorem hv_J14_getChar : yJ14_getChar.cls = RJ14 ∧ yJ14_getChar.cls ≠ "java/lang/invoke/MethodHandle" ∧ yJ14_getChar.cls ≠ "java/lang/invoke/VarHandle" ∧ (parseMethodDescriptor yJ14_getChar.desc).map (fun d => d.parameters.length) = some 2 := ⟨rfl, hs_J14_getChar⟩
theorem hs_J14_coderFromArrayLen : yJ14_coderFromArrayLen.cls ≠ "java/lang/invoke/MethodHandle" ∧ yJ14_coderFromArrayLen.cls ≠ "java/lang/invoke/VarHandle" ∧ (parseMethodDescriptor yJ14_coderFromArrayLen.desc).map (fun d => d.parameters.length) = some 2 := by decide +kernel
theorem hv_J14_coderFromArrayLen : yJ14_coderFromArrayLen.cls = RJ14 ∧ yJ14_coderFromArrayLen.cls ≠ "java/lang/invoke/MethodHandle" ∧ yJ14_coderFromArrayLen.cls ≠ "java/lang/invoke/VarHandle" ∧ (parseMethodDescriptor yJ14_coderFromArrayLen.desc).map (fun d => d.parameters.length) = some 2 := ⟨rfl, hs_J14_coderFromArrayLen⟩
theorem hs_J14_hashCode : yJ14_hashCode.cls ≠ "java/lang/invoke/MethodHandle" ∧ yJ14_hashCode.cls ≠ "java/lang/invoke/VarHandle" ∧ (parseMethodDescriptor yJ14_hashCode.desc).map (fun d => d.parameters.length) = some 1 := by decide +kernel
theorem hv_J14_hashCode : yJ14_hashCode.cls = RJ14 ∧ yJ14_hashCode.cls ≠ "java/lang/invoke/MethodHandle" ∧ yJ14_hashCode.cls ≠ "java/lang/invoke/VarHandle" ∧ (parseMethodDescriptor yJ14_hashCode.desc).map (fun d => d.parameters.length) = some 1 := ⟨rfl, hs_J14_hashCode⟩
theorem hs_J14_charAt : yJ14_charAt.cls ≠ "java/lang/invoke/MethodHandle" ∧ yJ14_charAt.cls ≠ "java/lang/invoke/VarHandle" ∧ (parseMethodDescriptor yJ14_charAt.desc).map (fun d => d.parameters.length) = some 2 := by decide +kernel
theorem hv_J14_charAt : yJ14_charAt.cls = RJ14 ∧ yJ14_charAt.cls ≠ "java/lang/invoke/MethodHandle" ∧ yJ14_charAt.cls ≠ "java/lang/invoke/VarHandle" ∧ (parseMethodDescriptor yJ14_charAt.desc).map (fun d => d.parameters.length) = some 2 := ⟨rfl, hs_J14_charAt⟩
theorem hs_J15_newLength : yJ15_newLength.cls ≠ "java/lang/invoke/MethodHandle" ∧ yJ15_newLength.cls ≠ "java/lang/invoke/VarHandle" ∧ (parseMethodDescriptor yJ15_newLength.desc).map (fun d => d.parameters.length) = some 3 := by decide +kernel
theorem hv_J15_newLength : yJ15_newLength.cls = RJ15 ∧ yJ15_newLength.cls ≠ "java/lang/invoke/MethodHandle" ∧ yJ15_newLength.cls ≠ "java/lang/invoke/VarHandle" ∧ (parseMethodDescriptor yJ15_newLength.desc).map (fun d => d.parameters.length) = some 3 := ⟨rfl, hs_J15_newLength⟩
theorem hs_J15_hugeLength : yJ15_hugeLength.cls ≠ "java/lang/invoke/MethodHandle" ∧ yJ15_hugeLength.cls ≠ "java/lang/invoke/VarHandle" ∧ (parseMethodDescriptor yJ15_hugeLength.desc).map (fun d => d.parameters.length) = some 2 := by decide +kernel
theorem hv_J15_hugeLength : yJ15_hugeLength.cls = RJ15 ∧ yJ15_hugeLength.cls ≠ "java/lang/invoke/MethodHandle" ∧ yJ15_hugeLength.cls ≠ "java/lang/invoke/VarHandle" ∧ (parseMethodDescriptor yJ15_hugeLength.desc).map (fun d => d.parameters.length) = some 2 := ⟨rfl, hs_J15_hugeLength⟩
theorem hs_J15_vectorizedHashCode : yJ15_vectorizedHashCode.cls ≠ "java/lang/invoke/MethodHandle" ∧ yJ15_vectorizedHashCode.cls ≠ "java/lang/invoke/VarHandle" ∧ (parseMethodDescriptor yJ15_vectorizedHashCode.desc).map (fun d => d.parameters.length) = some 5 := by decide +kernel
theorem hv_J15_vectorizedHashCode : yJ15_vectorizedHashCode.cls = RJ15 ∧ yJ15_vectorizedHashCode.cls ≠ "java/lang/invoke/MethodHandle" ∧ yJ15_vectorizedHashCode.cls ≠ "java/lang/invoke/VarHandle" ∧ (parseMethodDescriptor yJ15_vectorizedHashCode.desc).map (fun d => d.parameters.length) = some 5 := ⟨rfl, hs_J15_vectorizedHashCode⟩
theorem hs_J15_signedHashCode : yJ15_signedHashCode.cls ≠ "java/lang/invoke/MethodHandle" ∧ yJ15_signedHashCode.cls ≠ "java/lang/invoke/VarHandle" ∧ (parseMethodDescriptor yJ15_signedHashCode.desc).map (fun d => d.parameters.length) = some 4 := by decide +kernel
theorem hv_J15_signedHashCode : yJ15_signedHashCode.cls = RJ15 ∧ yJ15_signedHashCode.cls ≠ "java/lang/invoke/MethodHandle" ∧ yJ15_signedHashCode.cls ≠ "java/lang/invoke/VarHandle" ∧ (parseMethodDescriptor yJ15_signedHashCode.desc).map (fun d => d.parameters.length) = some 4 := ⟨rfl, hs_J15_signedHashCode⟩
theorem hs_J15_utf16hashCode : yJ15_utf16hashCode.cls ≠ "java/lang/invoke/MethodHandle" ∧ yJ15_utf16hashCode.cls ≠ "java/lang/invoke/VarHandle" ∧ (parseMethodDescriptor yJ15_utf16hashCode.desc).map (fun d => d.parameters.length) = some 4 := by decide +kernel
theorem hv_J15_utf16hashCode : yJ15_utf16hashCode.cls = RJ15 ∧ yJ15_utf16hashCode.cls ≠ "java/lang/invoke/MethodHandle" ∧ yJ15_utf16hashCode.cls ≠ "java/lang/invoke/VarHandle" ∧ (parseMethodDescriptor yJ15_utf16hashCode.desc).map (fun d => d.parameters.length) = some 4 := ⟨rfl, hs_J15_utf16hashCode⟩
theorem hs_J15_hashCode : yJ15_hashCode.cls ≠ "java/lang/invoke/MethodHandle" ∧ yJ15_hashCode.cls ≠ "java/lang/invoke/VarHandle" ∧ (parseMethodDescriptor yJ15_hashCode.desc).map (fun d => d.parameters.length) = some 4 := by decide +kernel
theorem hv_J15_hashCode : yJ15_hashCode.cls = RJ15 ∧ yJ15_hashCode.cls ≠ "java/lang/invoke/MethodHandle" ∧ yJ15_hashCode.cls ≠ "java/lang/invoke/VarHandle" ∧ (parseMethodDescriptor yJ15_hashCode.desc).map (fun d => d.parameters.length) = some 4 := ⟨rfl, hs_J15_hashCode⟩
theorem hs_J15_hashCode_2 : yJ15_hashCode_2.cls ≠ "java/lang/invoke/MethodHandle" ∧ yJ15_hashCode_2.cls ≠ "java/lang/invoke/VarHandle" ∧ (parseMethodDescriptor yJ15_hashCode_2.desc).map (fun d => d.parameters.length) = some 4 := by decide +kernel
theorem hv_J15_hashCode_2 : yJ15_hashCode_2.cls = RJ15 ∧ yJ15_hashCode_2.cls ≠ "java/lang/invoke/MethodHandle" ∧ yJ15_hashCode_2.cls ≠ "java/lang/invoke/VarHandle" ∧ (parseMethodDescriptor yJ15_hashCode_2.desc).map (fun d => d.parameters.length) = some 4 := ⟨rfl, hs_J15_hashCode_2⟩
theorem hs_J15_hashCode_3 : yJ15_hashCode_3.cls ≠ "java/lang/invoke/MethodHandle" ∧ yJ15_hashCode_3.cls ≠ "java/lang/invoke/VarHandle" ∧ (parseMethodDescriptor yJ15_hashCode_3.desc).map (fun d => d.parameters.length) = some 4 := by decide +kernel
theorem hv_J15_hashCode_3 : yJ15_hashCode_3.cls = RJ15 ∧ yJ15_hashCode_3.cls ≠ "java/lang/invoke/MethodHandle" ∧ yJ15_hashCode_3.cls ≠ "java/lang/invoke/VarHandle" ∧ (parseMethodDescriptor yJ15_hashCode_3.desc).map (fun d => d.parameters.length) = some 4 := ⟨rfl, hs_J15_hashCode_3⟩
theorem hs_J15_hashCode_4 : yJ15_hashCode_4.cls ≠ "java/lang/invoke/MethodHandle" ∧ yJ15_hashCode_4.cls ≠ "java/lang/invoke/VarHandle" ∧ (parseMethodDescriptor yJ15_hashCode_4.desc).map (fun d => d.parameters.length) = some 4 := by decide +kernel
theorem hv_J15_hashCode_4 : yJ15_hashCode_4.cls = RJ15 ∧ yJ15_hashCode_4.cls ≠ "java/lang/invoke/MethodHandle" ∧ yJ15_hashCode_4.cls ≠ "java/lang/invoke/VarHandle" ∧ (parseMethodDescriptor yJ15_hashCode_4.desc).map (fun d => d.parameters.length) = some 4 := ⟨rfl, hs_J15_hashCode_4⟩
theorem hs_J16_canEncode : yJ16_canEncode.cls ≠ "java/lang/invoke/MethodHandle" ∧ yJ16_canEncode.cls ≠ "java/lang/invoke/VarHandle" ∧ (parseMethodDescriptor yJ16_canEncode.desc).map (fun d => d.parameters.length) = some 1 := by decide +kernel
theorem hv_J16_canEncode : yJ16_canEncode.cls = RJ16 ∧ yJ16_canEncode.cls ≠ "java/lang/invoke/MethodHandle" ∧ yJ16_canEncode.cls ≠ "java/lang/invoke/VarHandle" ∧ (parseMethodDescriptor yJ16_canEncode.desc).map (fun d => d.parameters.length) = some 1 := ⟨rfl, hs_J16_canEncode⟩
theorem hs_J16_inflate : yJ16_inflate.cls ≠ "java/lang/invoke/MethodHandle" ∧ yJ16_inflate.cls ≠ "java/lang/invoke/VarHandle" ∧ (parseMethodDescriptor yJ16_inflate.desc).map (fun d => d.parameters.length) = some 5 := by decide +kernel
theorem hv_J16_inflate : yJ16_inflate.cls = RJ16 ∧ yJ16_inflate.cls ≠ "java/lang/invoke/MethodHandle" ∧ yJ16_inflate.cls ≠ "java/lang/invoke/VarHandle" ∧ (parseMethodDescriptor yJ16_inflate.desc).map (fun d => d.parameters.length) = some 5 := ⟨rfl, hs_J16_inflate⟩
theorem hs_J16_hashCode : yJ16_hashCode.cls ≠ "java/lang/invoke/MethodHandle" ∧ yJ16_hashCode.cls ≠ "java/lang/invoke/VarHandle" ∧ (parseMethodDescriptor yJ16_hashCode.desc).map (fun d => d.parameters.length) = some 1 := by decide +kernel
theorem hv_J16_hashCode : yJ16_hashCode.cls = RJ16 ∧ yJ16_hashCode.cls ≠ "java/lang/invoke/MethodHandle" ∧ yJ16_hashCode.cls ≠ "java/lang/invoke/VarHandle" ∧ (parseMethodDescriptor yJ16_hashCode.desc).map (fun d => d.parameters.length) = some 1 := ⟨rfl, hs_J16_hashCode⟩
theorem hs_J16_equals : yJ16_equals.cls ≠ "java/lang/invoke/MethodHandle" ∧ yJ16_equals.cls ≠ "java/lang/invoke/VarHandle" ∧ (parseMethodDescriptor yJ16_equals.desc).map (fun d => d.parameters.length) = some 2 := by decide +kernel
theorem hv_J16_equals : yJ16_equals.cls = RJ16 ∧ yJ16_equals.cls ≠ "java/lang/invoke/MethodHandle" ∧ yJ16_equals.cls ≠ "java/lang/invoke/VarHandle" ∧ (parseMethodDescriptor yJ16_equals.desc).map (fun d => d.parameters.length) = some 2 := ⟨rfl, hs_J16_equals⟩
theorem hs_J16_charAt : yJ16_charAt.cls ≠ "java/lang/invoke/MethodHandle" ∧ yJ16_charAt.cls ≠ "java/lang/invoke/VarHandle" ∧ (parseMethodDescriptor yJ16_charAt.desc).map (fun d => d.parameters.length) = some 2 := by decide +kernel
theorem hv_J16_charAt : yJ16_charAt.cls = RJ16 ∧ yJ16_charAt.cls ≠ "java/lang/invoke/MethodHandle" ∧ yJ16_charAt.cls ≠ "java/lang/invoke/VarHandle" ∧ (parseMethodDescriptor yJ16_charAt.desc).map (fun d => d.parameters.length) = some 2 := ⟨rfl, hs_J16_charAt⟩
theorem hs_J17_checkFromIndexSize : yJ17_checkFromIndexSize.cls ≠ "java/lang/invoke/MethodHandle" ∧ yJ17_checkFromIndexSize.cls ≠ "java/lang/invoke/VarHandle" ∧ (parseMethodDescriptor yJ17_checkFromIndexSize.desc).map (fun d => d.parameters.length) = some 4 := by decide +kernel
theorem hv_J17_checkFromIndexSize : yJ17_checkFromIndexSize.cls = RJ17 ∧ yJ17_checkFromIndexSize.cls ≠ "java/lang/invoke/MethodHandle" ∧ yJ17_checkFromIndexSize.cls ≠ "java/lang/invoke/VarHandle" ∧ (parseMethodDescriptor yJ17_checkFromIndexSize.desc).map (fun d => d.parameters.length) = some 4 := ⟨rfl, hs_J17_checkFromIndexSize⟩
theorem hs_J17_checkIndex : yJ17_checkIndex.cls ≠ "java/lang/invoke/MethodHandle" ∧ yJ17_checkIndex.cls ≠ "java/lang/invoke/VarHandle" ∧ (parseMethodDescriptor yJ17_checkIndex.desc).map (fun d => d.parameters.length) = some 3 := by decide +kernel
theorem hv_J17_checkIndex : yJ17_checkIndex.cls = RJ17 ∧ yJ17_checkIndex.cls ≠ "java/lang/invoke/MethodHandle" ∧ yJ17_checkIndex.cls ≠ "java/lang/invoke/VarHandle" ∧ (parseMethodDescriptor yJ17_checkIndex.desc).map (fun d => d.parameters.length) = some 3 := ⟨rfl, hs_J17_checkIndex⟩
theorem hs_J18_init : yJ18_init.cls ≠ "java/lang/invoke/MethodHandle" ∧ yJ18_init.cls ≠ "java/lang/invoke/VarHandle" ∧ (parseMethodDescriptor yJ18_init.desc).map (fun d => d.parameters.length) = some 0 := by decide +kernel
theorem hv_J18_init : yJ18_init.cls = RJ18 ∧ yJ18_init.cls ≠ "java/lang/invoke/MethodHandle" ∧ yJ18_init.cls ≠ "java/lang/invoke/VarHandle" ∧ (parseMethodDescriptor yJ18_init.desc).map (fun d => d.parameters.length) = some 0 := ⟨rfl, hs_J18_init⟩
theorem hs_J19_getUTF16Char : yJ19_getUTF16Char.cls ≠ "java/lang/invoke/MethodHandle" ∧ yJ19_getUTF16Char.cls ≠ "java/lang/invoke/VarHandle" ∧ (parseMethodDescriptor yJ19_getUTF16Char.desc).map (fun d => d.parameters.length) = some 2 := by decide +kernel
theorem hv_J19_getUTF16Char : yJ19_getUTF16Char.cls = RJ19 ∧ yJ19_getUTF16Char.cls ≠ "java/lang/invoke/MethodHandle" ∧ yJ19_getUTF16Char.cls ≠ "java/lang/invoke/VarHandle" ∧ (parseMethodDescriptor yJ19_getUTF16Char.desc).map (fun d => d.parameters.length) = some 2 := ⟨rfl, hs_J19_getUTF16Char⟩
theorem hs_J2_init : yJ2_init.cls ≠ "java/lang/invoke/MethodHandle" ∧ yJ2_init.cls ≠ "java/lang/invoke/VarHandle" ∧ (parseMethodDescriptor yJ2_init.desc).map (fun d => d.parameters.length) = some 1 := by decide +kernel
theorem hv_J2_init : yJ2_init.cls = RJ2 ∧ yJ2_init.cls ≠ "java/lang/invoke/MethodHandle" ∧ yJ2_init.cls ≠ "java/lang/invoke/VarHandle" ∧ (parseMethodDescriptor yJ2_init.desc).map (fun d => d.parameters.length) = some 1 := ⟨rfl, hs_J2_init⟩
theorem hs_J2_init_2 : yJ2_init_2.cls ≠ "java/lang/invoke/MethodHandle" ∧ yJ2_init_2.cls ≠ "java/lang/invoke/VarHandle" ∧ (parseMethodDescriptor yJ2_init_2.desc).map (fun d => d.parameters.length) = some 4 := by decide +kernel
theorem hv_J2_init_2 : yJ2_init_2.cls = RJ2 ∧ yJ2_init_2.cls ≠ "java/lang/invoke/MethodHandle" ∧ yJ2_init_2.cls ≠ "java/lang/invoke/VarHandle" ∧ (parseMethodDescriptor yJ2_init_2.desc).map (fun d => d.parameters.length) = some 4 := ⟨rfl, hs_J2_init_2⟩
theorem hs_J2_init_3 : yJ2_init_3.cls ≠ "java/lang/invoke/MethodHandle" ∧ yJ2_init_3.cls ≠ "java/lang/invoke/VarHandle" ∧ (parseMethodDescriptor yJ2_init_3.desc).map (fun d => d.parameters.length) = some 0 := by decide +kernel
theorem hv_J2_init_3 : yJ2_init_3.cls = RJ2 ∧ yJ2_init_3.cls ≠ "java/lang/invoke/MethodHandle" ∧ yJ2_init_3.cls ≠ "java/lang/invoke/VarHandle" ∧ (parseMethodDescriptor yJ2_init_3.desc).map (fun d => d.parameters.length) = some 0 := ⟨rfl, hs_J2_init_3⟩
theorem hs_J3_init : yJ3_init.cls ≠ "java/lang/invoke/MethodHandle" ∧ yJ3_init.cls ≠ "java/lang/invoke/VarHandle" ∧ (parseMethodDescriptor yJ3_init.desc).map (fun d => d.parameters.length) = some 1 := by decide +kernel
theorem hv_J3_init : yJ3_init.cls = RJ3 ∧ yJ3_init.cls ≠ "java/lang/invoke/MethodHandle" ∧ yJ3_init.cls ≠ "java/lang/invoke/VarHandle" ∧ (parseMethodDescriptor yJ3_init.desc).map (fun d => d.parameters.length) = some 1 := ⟨rfl, hs_J3_init⟩
theorem hs_J3_init_2 : yJ3_init_2.cls ≠ "java/lang/invoke/MethodHandle" ∧ yJ3_init_2.cls ≠ "java/lang/invoke/VarHandle" ∧ (parseMethodDescriptor yJ3_init_2.desc).map (fun d => d.parameters.length) = some 0 := by decide +kernel
theorem hv_J3_init_2 : yJ3_init_2.cls = RJ3 ∧ yJ3_init_2.cls ≠ "java/lang/invoke/MethodHandle" ∧ yJ3_init_2.cls ≠ "java/lang/invoke/VarHandle" ∧ (parseMethodDescriptor yJ3_init_2.desc).map (fun d => d.parameters.length) = some 0 := ⟨rfl, hs_J3_init_2⟩
theorem hs_J4_checkBoundsOffCount : yJ4_checkBoundsOffCount.cls ≠ "java/lang/invoke/MethodHandle" ∧ yJ4_checkBoundsOffCount.cls ≠ "java/lang/invoke/VarHandle" ∧ (parseMethodDescriptor yJ4_checkBoundsOffCount.desc).map (fun d => d.parameters.length) = some 3 := by decide +kernel
theorem hv_J4_checkBoundsOffCount : yJ4_checkBoundsOffCount.cls = RJ4 ∧ yJ4_checkBoundsOffCount.cls ≠ "java/lang/invoke/MethodHandle" ∧ yJ4_checkBoundsOffCount.cls ≠ "java/lang/invoke/VarHandle" ∧ (parseMethodDescriptor yJ4_checkBoundsOffCount.desc).map (fun d => d.parameters.length) = some 3 := ⟨rfl, hs_J4_checkBoundsOffCount⟩
theorem hs_J4_checkIndex : yJ4_checkIndex.cls ≠ "java/lang/invoke/MethodHandle" ∧ yJ4_checkIndex.cls ≠ "java/lang/invoke/VarHandle" ∧ (parseMethodDescriptor yJ4_checkIndex.desc).map (fun d => d.parameters.length) = some 2 := by decide +kernel
theorem hv_J4_checkIndex : yJ4_checkIndex.cls = RJ4 ∧ yJ4_checkIndex.cls ≠ "java/lang/invoke/MethodHandle" ∧ yJ4_checkIndex.cls ≠ "java/lang/invoke/VarHandle" ∧ (parseMethodDescriptor yJ4_checkIndex.desc).map (fun d => d.parameters.length) = some 2 := ⟨rfl, hs_J4_checkIndex⟩
theorem hs_J4_init : yJ4_init.cls ≠ "java/lang/invoke/MethodHandle" ∧ yJ4_init.cls ≠ "java/lang/invoke/VarHandle" ∧ (parseMethodDescriptor yJ4_init.desc).map (fun d => d.parameters.length) = some 1 := by decide +kernel
theorem hv_J4_init : yJ4_init.cls = RJ4 ∧ yJ4_init.cls ≠ "java/lang/invoke/MethodHandle" ∧ yJ4_init.cls ≠ "java/lang/invoke/VarHandle" ∧ (parseMethodDescriptor yJ4_init.desc).map (fun d => d.parameters.length) = some 1 := ⟨rfl, hs_J4_init⟩
theorem hs_J4_init_2 : yJ4_init_2.cls ≠ "java/lang/invoke/MethodHandle" ∧ yJ4_init_2.cls ≠ "java/lang/invoke/VarHandle" ∧ (parseMethodDescriptor yJ4_init_2.desc).map (fun d => d.parameters.length) = some 2 := by decide +kernel
theorem hv_J4_init_2 : yJ4_init_2.cls = RJ4 ∧ yJ4_init_2.cls ≠ "java/lang/invoke/MethodHandle" ∧ yJ4_init_2.cls ≠ "java/lang/invoke/VarHandle" ∧ (parseMethodDescriptor yJ4_init_2.desc).map (fun d => d.parameters.length) = some 2 := ⟨rfl, hs_J4_init_2⟩
theorem hs_J4_hashCode : yJ4_hashCode.cls ≠ "java/lang/invoke/MethodHandle" ∧ yJ4_hashCode.cls ≠ "java/lang/invoke/VarHandle" ∧ (parseMethodDescriptor yJ4_hashCode.desc).map (fun d => d.parameters.length) = some 0 := by decide +kernel
theorem hv_J4_hashCode : yJ4_hashCode.cls = RJ4 ∧ yJ4_hashCode.cls ≠ "java/lang/invoke/MethodHandle" ∧ yJ4_hashCode.cls ≠ "java/lang/invoke/VarHandle" ∧ (parseMethodDescriptor yJ4_hashCode.desc).map (fun d => d.parameters.length) = some 0 := ⟨rfl, hs_J4_hashCode⟩
theorem hs_J4_isLatin1 : yJ4_isLatin1.cls ≠ "java/lang/invoke/MethodHandle" ∧ yJ4_isLatin1.cls ≠ "java/lang/invoke/VarHandle" ∧ (parseMethodDescriptor yJ4_isLatin1.desc).map (fun d => d.parameters.length) = some 0 := by decide +kernel
theorem hv_J4_isLatin1 : yJ4_isLatin1.cls = RJ4 ∧ yJ4_isLatin1.cls ≠ "java/lang/invoke/MethodHandle" ∧ yJ4_isLatin1.cls ≠ "java/lang/invoke/VarHandle" ∧ (parseMethodDescriptor yJ4_isLatin1.desc).map (fun d => d.parameters.length) = some 0 := ⟨rfl, hs_J4_isLatin1⟩
theorem hs_J4_equals : yJ4_equals.cls ≠ "java/lang/invoke/MethodHandle" ∧ yJ4_equals.cls ≠ "java/lang/invoke/VarHandle" ∧ (parseMethodDescriptor yJ4_equals.desc).map (fun d => d.parameters.length) = some 1 := by decide +kernel
theorem hv_J4_equals : yJ4_equals.cls = RJ4 ∧ yJ4_equals.cls ≠ "java/lang/invoke/MethodHandle" ∧ yJ4_equals.cls ≠ "java/lang/invoke/VarHandle" ∧ (parseMethodDescriptor yJ4_equals.desc).map (fun d => d.parameters.length) = some 1 := ⟨rfl, hs_J4_equals⟩
theorem hs_J4_length : yJ4_length.cls ≠ "java/lang/invoke/MethodHandle" ∧ yJ4_length.cls ≠ "java/lang/invoke/VarHandle" ∧ (parseMethodDescriptor yJ4_length.desc).map (fun d => d.parameters.length) = some 0 := by decide +kernel
theorem hv_J4_length : yJ4_length.cls = RJ4 ∧ yJ4_length.cls ≠ "java/lang/invoke/MethodHandle" ∧ yJ4_length.cls ≠ "java/lang/invoke/VarHandle" ∧ (parseMethodDescriptor yJ4_length.desc).map (fun d => d.parameters.length) = some 0 := ⟨rfl, hs_J4_length⟩
theorem hs_J4_coder : yJ4_coder.cls ≠ "java/lang/invoke/MethodHandle" ∧ yJ4_coder.cls ≠ "java/lang/invoke/VarHandle" ∧ (parseMethodDescriptor yJ4_coder.desc).map (fun d => d.parameters.length) = some 0 := by decide +kernel
theorem hv_J4_coder : yJ4_coder.cls = RJ4 ∧ yJ4_coder.cls ≠ "java/lang/invoke/MethodHandle" ∧ yJ4_coder.cls ≠ "java/lang/invoke/VarHandle" ∧ (parseMethodDescriptor yJ4_coder.desc).map (fun d => d.parameters.length) = some 0 := ⟨rfl, hs_J4_coder⟩
theorem hs_J4_charAt : yJ4_charAt.cls ≠ "java/lang/invoke/MethodHandle" ∧ yJ4_charAt.cls ≠ "java/lang/invoke/VarHandle" ∧ (parseMethodDescriptor yJ4_charAt.desc).map (fun d => d.parameters.length) = some 1 := by decide +kernel
theorem hv_J4_charAt : yJ4_charAt.cls = RJ4 ∧ yJ4_charAt.cls ≠ "java/lang/invoke/MethodHandle" ∧ yJ4_charAt.cls ≠ "java/lang/invoke/VarHandle" ∧ (parseMethodDescriptor yJ4_charAt.desc).map (fun d => d.parameters.length) = some 1 := ⟨rfl, hs_J4_charAt⟩
theorem hs_J5_init : yJ5_init.cls ≠ "java/lang/invoke/MethodHandle" ∧ yJ5_init.cls ≠ "java/lang/invoke/VarHandle" ∧ (parseMethodDescriptor yJ5_init.desc).map (fun d => d.parameters.length) = some 1 := by decide +kernel
theorem hv_J5_init : yJ5_init.cls = RJ5 ∧ yJ5_init.cls ≠ "java/lang/invoke/MethodHandle" ∧ yJ5_init.cls ≠ "java/lang/invoke/VarHandle" ∧ (parseMethodDescriptor yJ5_init.desc).map (fun d => d.parameters.length) = some 1 := ⟨rfl, hs_J5_init⟩
theorem hs_J6_init : yJ6_init.cls ≠ "java/lang/invoke/MethodHandle" ∧ yJ6_init.cls ≠ "java/lang/invoke/VarHandle" ∧ (parseMethodDescriptor yJ6_init.desc).map (fun d => d.parameters.length) = some 1 := by decide +kernel
theorem hv_J6_init : yJ6_init.cls = RJ6 ∧ yJ6_init.cls ≠ "java/lang/invoke/MethodHandle" ∧ yJ6_init.cls ≠ "java/lang/invoke/VarHandle" ∧ (parseMethodDescriptor yJ6_init.desc).map (fun d => d.parameters.length) = some 1 := ⟨rfl, hs_J6_init⟩
theorem hs_J7_init : yJ7_init.cls ≠ "java/lang/invoke/MethodHandle" ∧ yJ7_init.cls ≠ "java/lang/invoke/VarHandle" ∧ (parseMethodDescriptor yJ7_init.desc).map (fun d => d.parameters.length) = some 0 := by decide +kernel
theorem hv_J7_init : yJ7_init.cls = RJ7 ∧ yJ7_init.cls ≠ "java/lang/invoke/MethodHandle" ∧ yJ7_init.cls ≠ "java/lang/invoke/VarHandle" ∧ (parseMethodDescriptor yJ7_init.desc).map (fun d => d.parameters.length) = some 0 := ⟨rfl, hs_J7_init⟩
theorem hs_J8_init : yJ8_init.cls ≠ "java/lang/invoke/MethodHandle" ∧ yJ8_init.cls ≠ "java/lang/invoke/VarHandle" ∧ (parseMethodDescriptor yJ8_init.desc).map (fun d => d.parameters.length) = some 1 := by decide +kernel
theorem hv_J8_init : yJ8_init.cls = RJ8 ∧ yJ8_init.cls ≠ "java/lang/invoke/MethodHandle" ∧ yJ8_init.cls ≠ "java/lang/invoke/VarHandle" ∧ (parseMethodDescriptor yJ8_init.desc).map (fun d => d.parameters.length) = some 1 := ⟨rfl, hs_J8_init⟩
theorem hs_J9_init : yJ9_init.cls ≠ "java/lang/invoke/MethodHandle" ∧ yJ9_init.cls ≠ "java/lang/invoke/VarHandle" ∧ (parseMethodDescriptor yJ9_init.desc).map (fun d => d.parameters.length) = some 1 := by decide +kernel
theorem hv_J9_init : yJ9_init.cls = RJ9 ∧ yJ9_init.cls ≠ "java/lang/invoke/MethodHandle" ∧ yJ9_init.cls ≠ "java/lang/invoke/VarHandle" ∧ (parseMethodDescriptor yJ9_init.desc).map (fun d => d.parameters.length) = some 1 := ⟨rfl, hs_J9_init⟩
theorem gu_self {w : GW} {a : Nat} {e : va_E} (h : w a = some e) : gu w a e = w := by
  funext b
  by_cases hb : b = a
  · subst hb; rw [gu_s, h]
  · rw [gu_n hb]
theorem gu_gu {w : GW} {a : Nat} {e e2 : va_E} : gu (gu w a e) a e2 = gu w a e2 := by
  funext b
  by_cases hb : b = a
  · subst hb; rw [gu_s, gu_s]
  · rw [gu_n hb, gu_n hb, gu_n hb]
def lZero : Nat → Int64 := fun _ => lN 0
/-- a fill of n places -/
def fillL (f : Nat → Int64) (n : Nat) (v : Int64) : Nat → Int64 := fun j => if j < n then v else f j
def fillI (f : Nat → Int32) (n : Nat) (v : Int32) : Nat → Int32 := fun j => if j < n then v else f j
theorem fillL_0 {f : Nat → Int64} {v : Int64} : fillL f 0 v = f := by funext j; simp [fillL]
theorem fillI_0 {f : Nat → Int32} {v : Int32} : fillI f 0 v = f := by funext j; simp [fillI]
theorem fillL_1 {f : Nat → Int64} {v : Int64} {i : Nat} : vp_updL (fillL f i v) i v = fillL f (i + 1) v := by
  funext j
  unfold vp_updL fillL
  by_cases h : j = i
  · subst h; simp
  · rw [if_neg h]
    by_cases h2 : j < i
    · rw [if_pos h2, if_pos (by omega)]
    · rw [if_neg h2, if_neg (by omega)]
theorem fillI_1 {f : Nat → Int32} {v : Int32} {i : Nat} : upd (fillI f i v) i v = fillI f (i + 1) v := by
  funext j
  unfold upd fillI
  by_cases h : j = i
  · subst h; simp
  · rw [if_neg h]
    by_cases h2 : j < i
    · rw [if_pos h2, if_pos (by omega)]
    · rw [if_neg h2, if_neg (by omega)]
set_option maxHeartbeats 2000000 in
theorem m_J11_fill {l : Launch} {G : GG} {w : GW} {q n : Nat} {f : Nat → Int64} {v : Int64} (hq : w q = some (.inl (G.2.1 1, n, .inr (.inl (f))))) (hn : n < 2 ^ 31) : gM l G yJ11_fill cJ11_fill 5 none 1 0 0 [.ref (q), .long (v)] w (pV (fun w1 => w1 = gu w q (.inl (G.2.1 1, n, .inr (.inl (fillL f n v)))))) := by
  refine Z.met (own := "java/util/Arrays") (nm := "fill") (lv := [(0, .ref (q)), (1, .long (v))]) (by decide) rfl rfl (Nat.le_of_ble_eq_true rfl) rfl (fun κ X => ?_)
  refine z_iconst (v := nI (0)) X dJ11_fill_0 ci0 ?_
  refine z_istore_n (lv2 := [(3, .int (nI (0))), (0, .ref (q)), (1, .long (v))]) X dJ11_fill_1 rfl (Nat.le_of_ble_eq_true rfl) rfl ?_
  refine z_aload_n X dJ11_fill_2 rfl 1 rfl ?_
  refine z_alen (t := 1) (v := nI (n)) X dJ11_fill_3 hq rfl rfl ?_
  refine z_istore (lv2 := [(4, .int (nI (n))), (3, .int (nI (0))), (0, .ref (q)), (1, .long (v))]) X dJ11_fill_4 (Nat.le_of_ble_eq_true rfl) rfl ?_
  rw [← gu_self hq]
  have lp : ∀ (lq i : Nat), i + lq = n → Z κ (gu w q (.inl (G.2.1 1, n, .inr (.inl (fillL f i v))))) [(3, .int (nI (i))), (4, .int (nI (n))), (0, .ref (q)), (1, .long (v))] 0 0 6 [] := by
    intro lq
    induction lq with
    | zero =>
      intro i lh
      refine z_iload_n X dJ11_fill_6 rfl 0 rfl ?_
      refine z_iload X dJ11_fill_7 1 rfl ?_
      refine z_icmp_ge_t (tgt := 22) X dJ11_fill_9 (by decide) ((nI_leI (by omega) (by omega)).mpr (by omega)) ?_
      exact z_vret X dJ11_fill_22 (by omega) (by omega) ⟨rfl, (by rw [show i = n by omega])⟩
    | succ lq ih =>
      intro i lh
      refine z_iload_n X dJ11_fill_6 rfl 0 rfl ?_
      refine z_iload X dJ11_fill_7 1 rfl ?_
      refine z_icmp_ge_f (tgt := 22) X dJ11_fill_9 (by decide) (fun h => absurd ((nI_leI (by omega) (by omega)).mp h) (by omega)) ?_
      refine z_aload_n X dJ11_fill_12 rfl 2 rfl ?_
      refine z_iload_n X dJ11_fill_13 rfl 0 rfl ?_
      refine z_lload_n X dJ11_fill_14 rfl 3 rfl ?_
      refine z_lsN X dJ11_fill_15 gu_s (by omega) (by omega) ?_
      rw [gu_gu, fillL_1]
      refine z_iinc (v := nI (i + 1)) (lv2 := [(3, .int (nI (i + 1))), (4, .int (nI (n))), (0, .ref (q)), (1, .long (v))]) X dJ11_fill_16 0 rfl (nI_1 _) (Nat.le_of_ble_eq_true rfl) rfl ?_
      refine z_goto (tgt := 6) X dJ11_fill_19 (by decide) ?_
      exact ih (i + 1) (by omega)
  refine Z.lv [1, 0, 2, 3] rfl ?_
  rw [show f = fillL f 0 v from fillL_0.symm]
  exact lp n 0 (by omega)
set_option maxHeartbeats 2000000 in
theorem m_J11_fill_2 {l : Launch} {G : GG} {w : GW} {q n : Nat} {f : Nat → Int32} {v : Int32} (hq : w q = some (.inl (G.2.1 0, n, .inl (f)))) (hn : n < 2 ^ 31) : gM l G yJ11_fill_2 cJ11_fill_2 4 none 1 0 0 [.ref (q), .int (v)] w (pV (fun w1 => w1 = gu w q (.inl (G.2.1 0, n, .inl (fillI f n v))))) := by
  refine Z.met (own := "java/util/Arrays") (nm := "fill") (lv := [(0, .ref (q)), (1, .int (v))]) (by decide) rfl rfl (Nat.le_of_ble_eq_true rfl) rfl (fun κ X => ?_)
  refine z_iconst (v := nI (0)) X dJ11_fill_2_0 ci0 ?_
  refine z_istore_n (lv2 := [(2, .int (nI (0))), (0, .ref (q)), (1, .int (v))]) X dJ11_fill_2_1 rfl (Nat.le_of_ble_eq_true rfl) rfl ?_
  refine z_aload_n X dJ11_fill_2_2 rfl 1 rfl ?_
  refine z_alen (t := 0) (v := nI (n)) X dJ11_fill_2_3 hq rfl rfl ?_
  refine z_istore_n (lv2 := [(3, .int (nI (n))), (2, .int (nI (0))), (0, .ref (q)), (1, .int (v))]) X dJ11_fill_2_4 rfl (Nat.le_of_ble_eq_true rfl) rfl ?_
  rw [← gu_self hq]
  have lp : ∀ (lq i : Nat), i + lq = n → Z κ (gu w q (.inl (G.2.1 0, n, .inl (fillI f i v)))) [(2, .int (nI (i))), (3, .int (nI (n))), (0, .ref (q)), (1, .int (v))] 0 0 5 [] := by
    intro lq
    induction lq with
    | zero =>
      intro i lh
      refine z_iload_n X dJ11_fill_2_5 rfl 0 rfl ?_
      refine z_iload_n X dJ11_fill_2_6 rfl 1 rfl ?_
      refine z_icmp_ge_t (tgt := 20) X dJ11_fill_2_7 (by decide) ((nI_leI (by omega) (by omega)).mpr (by omega)) ?_
      exact z_vret X dJ11_fill_2_20 (by omega) (by omega) ⟨rfl, (by rw [show i = n by omega])⟩
    | succ lq ih =>
      intro i lh
      refine z_iload_n X dJ11_fill_2_5 rfl 0 rfl ?_
      refine z_iload_n X dJ11_fill_2_6 rfl 1 rfl ?_
      refine z_icmp_ge_f (tgt := 20) X dJ11_fill_2_7 (by decide) (fun h => absurd ((nI_leI (by omega) (by omega)).mp h) (by omega)) ?_
      refine z_aload_n X dJ11_fill_2_10 rfl 2 rfl ?_
      refine z_iload_n X dJ11_fill_2_11 rfl 0 rfl ?_
      refine z_iload_n X dJ11_fill_2_12 rfl 3 rfl ?_
      refine z_isN X dJ11_fill_2_13 gu_s (by omega) (by omega) ?_
      rw [gu_gu, fillI_1]
      refine z_iinc (v := nI (i + 1)) (lv2 := [(2, .int (nI (i + 1))), (3, .int (nI (n))), (0, .ref (q)), (1, .int (v))]) X dJ11_fill_2_14 0 rfl (nI_1 _) (Nat.le_of_ble_eq_true rfl) rfl ?_
      refine z_goto (tgt := 5) X dJ11_fill_2_17 (by decide) ?_
      exact ih (i + 1) (by omega)
  refine Z.lv [1, 0, 2, 3] rfl ?_
  rw [show f = fillI f 0 v from fillI_0.symm]
  exact lp n 0 (by omega)
/-- the wall rows: the outer array at q, two rows of 125 longs at ro 0, ro 1 -/
def RowsW (G : GG) (w : GW) (q : Nat) (ro : Nat → Nat) (T : Nat → Nat → Int64) : Prop := w q = some (.inl (G.2.1 6, 2, .inr (.inr (.inr (.inr (fun j => some (ro j))))))) ∧ (∀ k, k < 2 → w (ro k) = some (.inl (G.2.1 1, 125, .inr (.inl (T k))))) ∧ ro 0 ≠ ro 1 ∧ ∀ k, k < 2 → ∀ j, 125 ≤ j → T k j = lN 0
/-- what there is of rows: none, or both -/
def RowsO (G : GG) (w : GW) (rr : Option Nat) (ro : Nat → Nat) (T : Nat → Nat → Int64) : Prop := ∀ q, rr = some q → RowsW G w q ro T
def setR (T : Nat → Nat → Int64) (k : Nat) (f : Nat → Int64) : Nat → Nat → Int64 := fun k2 => if k2 = k then f else T k2
theorem fillZ {f : Nat → Int64} (h : ∀ j, 125 ≤ j → f j = lN 0) : fillL f 125 (lN 0) = lZero := by
  funext j
  unfold fillL lZero
  by_cases hj : j < 125
  · rw [if_pos hj]
  · rw [if_neg hj]; exact h j (by omega)
theorem WallW.ne {G : GG} {w : GW} {aw : Nat → Nat} {rr : Option Nat} {S : WS} (hW : WallW G w aw rr S) {b n : Nat} {c : ClassId} {x : (Nat → Int64) ⊕ (Nat → UInt32) ⊕ (Nat → UInt64) ⊕ (Nat → Option Nat)} (h : w b = some (.inl (c, n, .inr x))) : ∀ i, wP i = true → aw i ≠ b := by
  intro i hi e
  have h1 := hW.1 i hi
  rw [e, h] at h1
  unfold wCt at h1
  split at h1 <;> cases h1
theorem RowsW.set {G : GG} {w : GW} {q : Nat} {ro : Nat → Nat} {T : Nat → Nat → Int64} (h : RowsW G w q ro T) {k : Nat} (hk : k < 2) {f : Nat → Int64} (hf : ∀ j, 125 ≤ j → f j = lN 0) : RowsW G (gu w (ro k) (.inl (G.2.1 1, 125, .inr (.inl f)))) q ro (setR T k f) := by
  obtain ⟨h1, h2, h3, h4⟩ := h
  have hne : ∀ k2, k2 < 2 → k2 ≠ k → ro k2 ≠ ro k := by
    intro k2 hk2 hn
    rcases (show (k2 = 0 ∧ k = 1) ∨ (k2 = 1 ∧ k = 0) by omega) with ⟨rfl, rfl⟩ | ⟨rfl, rfl⟩
    · exact h3
    · exact Ne.symm h3
  refine ⟨gu_k (fun e => ?_) h1, fun k2 hk2 => ?_, h3, fun k2 hk2 => ?_⟩
  · rw [e, h2 k hk] at h1; simp at h1
  · by_cases e : k2 = k
    · subst e; rw [gu_s]; simp [setR]
    · rw [gu_n (hne k2 hk2 e), h2 k2 hk2]; simp [setR, e]
  · unfold setR
    by_cases e : k2 = k
    · rw [if_pos e]; exact hf
    · rw [if_neg e]; exact h4 k2 hk2
theorem RowsW.kept {G : GG} {w w1 : GW} {q : Nat} {ro : Nat → Nat} {T : Nat → Nat → Int64} (h : RowsW G w q ro T) (h1 : w1 q = w q) (h2 : ∀ k, k < 2 → w1 (ro k) = w (ro k)) : RowsW G w1 q ro T :=
  ⟨h1.trans h.1, fun k hk => (h2 k hk).trans (h.2.1 k hk), h.2.2⟩
set_option maxHeartbeats 2000000 in
theorem m_X2_rowS {l : Launch} {G : GG} {w : GW} {aw : Nat → Nat} {S : WS} {q : Nat} {ro : Nat → Nat} {T : Nat → Nat → Int64} (hW : WallW G w aw (some q) S) (hR : RowsW G w q ro T) {k : Nat} (hk : k < 2) : gM l G yX2_row cX2_row 2 (some (.array (.long))) 2 3 252 [.ref (aw 0), .int (nI (k))] w (pA (fun r w1 => r = ro k ∧ w1 = gu w (ro k) (.inl (G.2.1 1, 125, .inr (.inl lZero))))) := by
  refine Z.met (own := "ThreeSizes$Wall") (nm := "row") (lv := [(0, .ref (aw 0)), (1, .int (nI (k)))]) (by decide) rfl rfl (Nat.le_of_ble_eq_true rfl) rfl (fun κ X => ?_)
  have hne := WallW.ne hW (hR.2.1 k hk)
  have hqk : q ≠ ro k := fun e => by have h1 := hR.1; rw [e, hR.2.1 k hk] at h1; simp at h1
  have hz := fillZ (hR.2.2.2 k hk)
  refine z_aload_n X dX2_row_0 rfl 0 rfl ?_
  refine z_aload_n X dX2_row_1 rfl 0 rfl ?_
  refine z_get X dX2_row_2 (wl_o hW) in_X2 rfl 7 (Nat.le_of_ble_eq_true rfl) q150 rfl ?_
  refine z_nonnull (tgt := 18) X dX2_row_5 (by decide) ?_
  refine z_aload_n X dX2_row_18 rfl 0 rfl ?_
  refine z_get X dX2_row_19 (wl_o hW) in_X2 rfl 7 (Nat.le_of_ble_eq_true rfl) q150 rfl ?_
  refine z_put X dX2_row_22 (wl_o hW) in_X2 tyX2 tyX2_ok nmX2 rfl 7 (Nat.le_of_ble_eq_true rfl) q150 rfl rfl rfl (Nat.le_of_ble_eq_true rfl) ?_
  refine Eq.mp (congrArg (fun u => Z κ u _ _ _ _ _) (gu_self (wl_o hW)).symm) ?_
  refine z_aload_n X dX2_row_25 rfl 0 rfl ?_
  refine z_get X dX2_row_26 (wl_o hW) in_X2 rfl 7 (Nat.le_of_ble_eq_true rfl) q150 rfl ?_
  refine z_iload_n X dX2_row_29 rfl 1 rfl ?_
  refine z_aN6 (v := .ref (ro k)) X dX2_row_30 hR.1 (by omega) (by omega) rfl ?_
  refine z_lconst (v := lN 0) X dX2_row_31 cl0 ?_
  refine z_cv (z_runS (rest := []) (n := 2) X [.ref (ro k), .long (lN (0))] (m_J11_fill (hR.2.1 k hk) (v := lN (0)) (by omega)) dX2_row_32 (lw_S q652 q653 q92 q654) hs_J11_fill rfl ⟨Nat.le_of_ble_eq_true rfl, Nat.le_of_ble_eq_true rfl⟩ ⟨by omega, by omega⟩ rfl (Nat.le_of_ble_eq_true rfl)) (fun w3 h2 => ?_)
  subst h2
  refine z_aload_n X dX2_row_35 rfl 0 rfl ?_
  refine z_get X dX2_row_36 (wl_o (Sx.other hW hne)) in_X2 rfl 7 (Nat.le_of_ble_eq_true rfl) q150 rfl ?_
  refine z_iload_n X dX2_row_39 rfl 1 rfl ?_
  refine z_aN6 (v := .ref (ro k)) X dX2_row_40 (gu_k hqk hR.1) (by omega) (by omega) rfl ?_
  exact z_aret X dX2_row_41 (Or.inr ⟨_, rfl⟩) (by omega) (by omega) ⟨_, rfl, ⟨rfl, by rw [hz]⟩⟩
set_option maxHeartbeats 2000000 in
theorem m_X2_rowN {l : Launch} {G : GG} {w : GW} {aw : Nat → Nat} {S : WS} (hW : WallW G w aw none S) {k : Nat} (hk : k < 2) : gM l G yX2_row cX2_row 2 (some (.array (.long))) 2 3 252 [.ref (aw 0), .int (nI (k))] w (pA (fun r w1 => ∃ q ro, r = ro k ∧ WallW G w1 aw (some q) S ∧ RowsW G w1 q ro (fun _ => lZero) ∧ (∀ b e, w b = some e → b ≠ aw 0 → w1 b = some e) ∧ w q = none ∧ ∀ j, j < 2 → w (ro j) = none)) := by
  refine Z.met (own := "ThreeSizes$Wall") (nm := "row") (lv := [(0, .ref (aw 0)), (1, .int (nI (k)))]) (by decide) rfl rfl (Nat.le_of_ble_eq_true rfl) rfl (fun κ X => ?_)
  refine z_aload_n X dX2_row_0 rfl 0 rfl ?_
  refine z_aload_n X dX2_row_1 rfl 0 rfl ?_
  refine z_get X dX2_row_2 (wl_o hW) in_X2 rfl 7 (Nat.le_of_ble_eq_true rfl) q150 rfl ?_
  refine z_nonnullN X dX2_row_5 ?_
  refine z_iconst (v := nI (2)) X dX2_row_8 ci2 ?_
  refine z_bipush (v := nI (125)) X dX2_row_9 (by decide) ?_
  refine z_manew (ty := .long) X 2 125 1 6 (ei := (125, .inr (.inl lZero))) dX2_row_11 q650 q651 q358 (nI_pos (by omega)) (nI_pos (by omega)) (nI_clamp (by omega)) (nI_clamp (by omega)) (by decide) (by decide) (by decide) rfl rfl rfl rfl (fun U h => h) (fun cA => rfl) (by omega) (by omega) (fun q hq => ?_)
  have hq0 : aw 0 ≠ q := gu_ne (hq 0 (by omega)) (wl_o hW)
  have hqi : ∀ i, wP i = true → ∀ j, j ≤ 2 → aw i ≠ q + j := fun i hi j hj => gu_ne (hq j hj) (hW.1 i hi)
  obtain ⟨w2, hw2⟩ : ∃ w2, w2 = gmw w q 2 (.inl (G.2.1 6, 2, .inr (.inr (.inr (.inr (fun j => some (q + 1 + j))))))) (.inl (G.2.1 1, (125, .inr (.inl lZero)))) := ⟨_, rfl⟩
  rw [← hw2]
  have c6 : w2 q = some (.inl (G.2.1 6, 2, .inr (.inr (.inr (.inr (fun j => some (q + 1 + j))))))) := by rw [hw2]; exact gmw_o
  have c1 : ∀ j, j < 2 → w2 (q + 1 + j) = some (.inl (G.2.1 1, (125, .inr (.inl lZero)))) := fun j hj => by rw [hw2]; exact gmw_i hj
  have ck : ∀ b e, w b = some e → w2 b = some e := fun b e hb => by rw [hw2]; exact gmw_k hq hb
  refine z_goto (tgt := 22) X dX2_row_15 (by decide) ?_
  refine z_put X dX2_row_22 (ck _ _ (wl_o hW)) in_X2 tyX2 tyX2_ok nmX2 rfl 7 (Nat.le_of_ble_eq_true rfl) q150 rfl rfl rfl (Nat.le_of_ble_eq_true rfl) ?_
  obtain ⟨w3, hw3⟩ : ∃ w3, w3 = gu w2 (aw 0) (.inr (2, (wFs aw none S).set 7 (.ref q))) := ⟨_, rfl⟩
  rw [← hw3]
  have d0 : w3 (aw 0) = some (.inr (2, wFs aw (some q) S)) := by rw [hw3]; exact gu_s
  have d6 : w3 q = some (.inl (G.2.1 6, 2, .inr (.inr (.inr (.inr (fun j => some (q + 1 + j))))))) := by rw [hw3]; exact gu_k (Ne.symm hq0) c6
  have d1 : ∀ j, j < 2 → w3 (q + 1 + j) = some (.inl (G.2.1 1, (125, .inr (.inl lZero)))) := fun j hj => by rw [hw3]; exact gu_k (fun e => hqi 0 rfl (1 + j) (by omega) (by omega)) (c1 j hj)
  have dW : WallW G w3 aw (some q) S := by rw [hw3]; exact Sx.put (k := 0) (Sx.kept (w1 := w2) hW (fun i hi => (ck _ _ (hW.1 i hi)).trans (hW.1 i hi).symm)) rfl rfl (fun i hi h0 => by unfold wCt; rw [if_neg h0, if_neg h0])
  have dk : ∀ b e, w b = some e → b ≠ aw 0 → w3 b = some e := fun b e hb h0 => by rw [hw3]; exact gu_k h0 (ck b e hb)
  refine z_aload_n X dX2_row_25 rfl 0 rfl ?_
  refine z_get X dX2_row_26 d0 in_X2 rfl 7 (Nat.le_of_ble_eq_true rfl) q150 rfl ?_
  refine z_iload_n X dX2_row_29 rfl 1 rfl ?_
  refine z_aN6 (v := .ref ((q + 1 + k))) X dX2_row_30 d6 (by omega) (by omega) rfl ?_
  refine z_lconst (v := lN 0) X dX2_row_31 cl0 ?_
  refine z_cv (z_runS (rest := []) (n := 2) X [.ref ((q + 1 + k)), .long (lN (0))] (m_J11_fill (d1 k hk) (v := lN (0)) (by omega)) dX2_row_32 (lw_S q652 q653 q92 q654) hs_J11_fill rfl ⟨Nat.le_of_ble_eq_true rfl, Nat.le_of_ble_eq_true rfl⟩ ⟨by omega, by omega⟩ rfl (Nat.le_of_ble_eq_true rfl)) (fun w3 h2 => ?_)
  have hz : fillL lZero 125 (lN 0) = lZero := fillZ (fun _ _ => rfl)
  rw [hz] at h2
  subst h2
  rw [gu_self (d1 k hk)]
  refine z_aload_n X dX2_row_35 rfl 0 rfl ?_
  refine z_get X dX2_row_36 d0 in_X2 rfl 7 (Nat.le_of_ble_eq_true rfl) q150 rfl ?_
  refine z_iload_n X dX2_row_39 rfl 1 rfl ?_
  refine z_aN6 (v := .ref ((q + 1 + k))) X dX2_row_40 d6 (by omega) (by omega) rfl ?_
  exact z_aret X dX2_row_41 (Or.inr ⟨_, rfl⟩) (by omega) (by omega) ⟨_, rfl, ⟨q, fun j => q + 1 + j, rfl, dW, ⟨d6, d1, by show q + 1 + 0 ≠ q + 1 + 1; omega, fun _ _ _ _ => rfl⟩, dk, hq 0 (by omega), fun j hj => by have := hq (1 + j) (by omega); rwa [← Nat.add_assoc] at this⟩⟩
