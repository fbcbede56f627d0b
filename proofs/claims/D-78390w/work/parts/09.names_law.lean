set_option maxRecDepth 100000
abbrev cL_law : ByteArray := code
def dkwL_law_65 : List UInt8 := [167, 249, 216, 4, 172]
abbrev dktL_law_65 : List UInt8 := dkwL_law_65 ++ []
def dkwL_law_64 : List UInt8 := [172, 21, 5, 154, 0, 15, 45, 3, 47, 21, 6, 133, 148, 153, 0, 5, 3, 172, 167, 0, 3, 132, 4, 4]
abbrev dktL_law_64 : List UInt8 := dkwL_law_64 ++ dktL_law_65
def dkwL_law_63 : List UInt8 := [54, 5, 44, 42, 21, 4, 4, 96, 46, 182, 0, 191, 54, 6, 44, 182, 0, 100, 21, 5, 159, 0, 5, 3]
abbrev dktL_law_63 : List UInt8 := dkwL_law_63 ++ dktL_law_64
def dkwL_law_62 : List UInt8 := [21, 6, 133, 148, 153, 0, 5, 3, 172, 167, 0, 59, 43, 42, 21, 4, 4, 96, 46, 45, 184, 0, 189]
abbrev dktL_law_62 : List UInt8 := dkwL_law_62 ++ dktL_law_63
def dkwL_law_61 : List UInt8 := [182, 0, 188, 54, 6, 44, 182, 0, 100, 21, 5, 159, 0, 5, 3, 172, 21, 5, 154, 0, 15, 45, 3, 47]
abbrev dktL_law_61 : List UInt8 := dkwL_law_61 ++ dktL_law_62
def dkwL_law_60 : List UInt8 := [167, 0, 115, 43, 42, 21, 4, 4, 96, 46, 45, 184, 0, 186, 54, 5, 44, 42, 21, 4, 4, 96, 46]
abbrev dktL_law_60 : List UInt8 := dkwL_law_60 ++ dktL_law_61
def dkwL_law_59 : List UInt8 := [159, 0, 5, 3, 172, 21, 5, 154, 0, 15, 45, 3, 47, 21, 6, 133, 148, 153, 0, 5, 3, 172]
abbrev dktL_law_59 : List UInt8 := dkwL_law_59 ++ dktL_law_60
def dkwL_law_58 : List UInt8 := [133, 20, 0, 176, 127, 129, 42, 21, 4, 6, 96, 46, 182, 0, 185, 54, 6, 44, 182, 0, 100, 21, 5]
abbrev dktL_law_58 : List UInt8 := dkwL_law_58 ++ dktL_law_59
def dkwL_law_57 : List UInt8 := [46, 45, 184, 0, 182, 54, 5, 44, 42, 21, 4, 4, 96, 46, 133, 16, 32, 121, 42, 21, 4, 5, 96, 46]
abbrev dktL_law_57 : List UInt8 := dkwL_law_57 ++ dktL_law_58
def dkwL_law_56 : List UInt8 := [4, 96, 46, 133, 16, 32, 121, 42, 21, 4, 5, 96, 46, 133, 20, 0, 176, 127, 129, 42, 21, 4, 6, 96]
abbrev dktL_law_56 : List UInt8 := dkwL_law_56 ++ dktL_law_57
def dkwL_law_55 : List UInt8 := [21, 5, 154, 0, 15, 45, 3, 47, 21, 6, 133, 148, 153, 0, 5, 3, 172, 167, 0, 215, 43, 42, 21, 4]
abbrev dktL_law_55 : List UInt8 := dkwL_law_55 ++ dktL_law_56
def dkwL_law_54 : List UInt8 := [46, 133, 20, 0, 176, 127, 129, 182, 0, 181, 54, 6, 44, 182, 0, 100, 21, 5, 159, 0, 5, 3, 172]
abbrev dktL_law_54 : List UInt8 := dkwL_law_54 ++ dktL_law_55
def dkwL_law_53 : List UInt8 := [54, 5, 44, 42, 21, 4, 4, 96, 46, 42, 21, 4, 5, 96, 46, 133, 16, 32, 121, 42, 21, 4, 6, 96]
abbrev dktL_law_53 : List UInt8 := dkwL_law_53 ++ dktL_law_54
def dkwL_law_52 : List UInt8 := [5, 96, 46, 133, 16, 32, 121, 42, 21, 4, 6, 96, 46, 133, 20, 0, 176, 127, 129, 45, 184, 0, 178]
abbrev dktL_law_52 : List UInt8 := dkwL_law_52 ++ dktL_law_53
def dkwL_law_51 : List UInt8 := [3, 47, 21, 6, 133, 148, 153, 0, 5, 3, 172, 167, 1, 59, 43, 42, 21, 4, 4, 96, 46, 42, 21, 4]
abbrev dktL_law_51 : List UInt8 := dkwL_law_51 ++ dktL_law_52
def dkwL_law_50 : List UInt8 := [96, 46, 182, 0, 175, 54, 6, 44, 182, 0, 100, 21, 5, 159, 0, 5, 3, 172, 21, 5, 154, 0, 15, 45]
abbrev dktL_law_50 : List UInt8 := dkwL_law_50 ++ dktL_law_51
def dkwL_law_49 : List UInt8 := [46, 42, 21, 4, 5, 96, 46, 45, 184, 0, 173, 54, 5, 44, 42, 21, 4, 4, 96, 46, 42, 21, 4, 5]
abbrev dktL_law_49 : List UInt8 := dkwL_law_49 ++ dktL_law_50
def dkwL_law_48 : List UInt8 := [154, 0, 15, 45, 3, 47, 21, 6, 133, 148, 153, 0, 5, 3, 172, 167, 1, 127, 43, 42, 21, 4, 4, 96]
abbrev dktL_law_48 : List UInt8 := dkwL_law_48 ++ dktL_law_49
def dkwL_law_47 : List UInt8 := [21, 4, 4, 96, 46, 182, 0, 172, 54, 6, 44, 182, 0, 100, 21, 5, 159, 0, 5, 3, 172, 21, 5]
abbrev dktL_law_47 : List UInt8 := dkwL_law_47 ++ dktL_law_48
def dkwL_law_46 : List UInt8 := [153, 0, 5, 3, 172, 167, 1, 183, 43, 42, 21, 4, 4, 96, 46, 45, 184, 0, 170, 54, 5, 44, 42]
abbrev dktL_law_46 : List UInt8 := dkwL_law_46 ++ dktL_law_47
def dkwL_law_45 : List UInt8 := [182, 0, 100, 21, 5, 159, 0, 5, 3, 172, 21, 5, 154, 0, 15, 45, 3, 47, 21, 6, 133, 148]
abbrev dktL_law_45 : List UInt8 := dkwL_law_45 ++ dktL_law_46
def dkwL_law_44 : List UInt8 := [153, 0, 5, 3, 172, 167, 1, 227, 43, 45, 184, 0, 167, 54, 5, 44, 182, 0, 169, 54, 6, 44]
abbrev dktL_law_44 : List UInt8 := dkwL_law_44 ++ dktL_law_45
def dkwL_law_43 : List UInt8 := [182, 0, 100, 21, 5, 159, 0, 5, 3, 172, 21, 5, 154, 0, 15, 45, 3, 47, 21, 6, 133, 148]
abbrev dktL_law_43 : List UInt8 := dkwL_law_43 ++ dktL_law_44
def dkwL_law_42 : List UInt8 := [184, 0, 164, 54, 5, 44, 42, 21, 4, 4, 96, 46, 42, 21, 4, 5, 96, 46, 182, 0, 166, 54, 6, 44]
abbrev dktL_law_42 : List UInt8 := dkwL_law_42 ++ dktL_law_43
def dkwL_law_41 : List UInt8 := [153, 0, 5, 3, 172, 167, 2, 39, 43, 42, 21, 4, 4, 96, 46, 42, 21, 4, 5, 96, 46, 45]
abbrev dktL_law_41 : List UInt8 := dkwL_law_41 ++ dktL_law_42
def dkwL_law_40 : List UInt8 := [182, 0, 100, 21, 5, 159, 0, 5, 3, 172, 21, 5, 154, 0, 15, 45, 3, 47, 21, 6, 133, 148]
abbrev dktL_law_40 : List UInt8 := dkwL_law_40 ++ dktL_law_41
def dkwL_law_39 : List UInt8 := [153, 0, 5, 3, 172, 167, 2, 83, 43, 45, 184, 0, 161, 54, 5, 44, 182, 0, 163, 54, 6, 44]
abbrev dktL_law_39 : List UInt8 := dkwL_law_39 ++ dktL_law_40
def dkwL_law_38 : List UInt8 := [182, 0, 100, 21, 5, 159, 0, 5, 3, 172, 21, 5, 154, 0, 15, 45, 3, 47, 21, 6, 133, 148]
abbrev dktL_law_38 : List UInt8 := dkwL_law_38 ++ dktL_law_39
def dkwL_law_37 : List UInt8 := [153, 0, 5, 3, 172, 167, 2, 127, 43, 45, 184, 0, 158, 54, 5, 44, 182, 0, 160, 54, 6, 44]
abbrev dktL_law_37 : List UInt8 := dkwL_law_37 ++ dktL_law_38
def dkwL_law_36 : List UInt8 := [182, 0, 100, 21, 5, 159, 0, 5, 3, 172, 21, 5, 154, 0, 15, 45, 3, 47, 21, 6, 133, 148]
abbrev dktL_law_36 : List UInt8 := dkwL_law_36 ++ dktL_law_37
def dkwL_law_35 : List UInt8 := [21, 4, 4, 96, 46, 45, 184, 0, 155, 54, 5, 44, 42, 21, 4, 4, 96, 46, 182, 0, 157, 54, 6, 44]
abbrev dktL_law_35 : List UInt8 := dkwL_law_35 ++ dktL_law_36
def dkwL_law_34 : List UInt8 := [172, 21, 5, 154, 0, 15, 45, 3, 47, 21, 6, 133, 148, 153, 0, 5, 3, 172, 167, 2, 183, 43, 42]
abbrev dktL_law_34 : List UInt8 := dkwL_law_34 ++ dktL_law_35
def dkwL_law_33 : List UInt8 := [54, 5, 44, 42, 21, 4, 4, 96, 46, 182, 0, 154, 54, 6, 44, 182, 0, 100, 21, 5, 159, 0, 5, 3]
abbrev dktL_law_33 : List UInt8 := dkwL_law_33 ++ dktL_law_34
def dkwL_law_32 : List UInt8 := [21, 6, 133, 148, 153, 0, 5, 3, 172, 167, 2, 239, 43, 42, 21, 4, 4, 96, 46, 45, 184, 0, 152]
abbrev dktL_law_32 : List UInt8 := dkwL_law_32 ++ dktL_law_33
def dkwL_law_31 : List UInt8 := [182, 0, 151, 54, 6, 44, 182, 0, 100, 21, 5, 159, 0, 5, 3, 172, 21, 5, 154, 0, 15, 45, 3, 47]
abbrev dktL_law_31 : List UInt8 := dkwL_law_31 ++ dktL_law_32
def dkwL_law_30 : List UInt8 := [45, 3, 47, 21, 6, 133, 148, 153, 0, 5, 3, 172, 167, 3, 27, 43, 45, 184, 0, 149, 54, 5, 44]
abbrev dktL_law_30 : List UInt8 := dkwL_law_30 ++ dktL_law_31
def dkwL_law_29 : List UInt8 := [54, 5, 44, 182, 0, 148, 54, 6, 44, 182, 0, 100, 21, 5, 159, 0, 5, 3, 172, 21, 5, 154, 0, 15]
abbrev dktL_law_29 : List UInt8 := dkwL_law_29 ++ dktL_law_30
def dkwL_law_28 : List UInt8 := [154, 0, 15, 45, 3, 47, 21, 6, 133, 148, 153, 0, 5, 3, 172, 167, 3, 71, 43, 45, 184, 0, 146]
abbrev dktL_law_28 : List UInt8 := dkwL_law_28 ++ dktL_law_29
def dkwL_law_27 : List UInt8 := [4, 167, 0, 4, 3, 182, 0, 145, 54, 6, 44, 182, 0, 100, 21, 5, 159, 0, 5, 3, 172, 21, 5]
abbrev dktL_law_27 : List UInt8 := dkwL_law_27 ++ dktL_law_28
def dkwL_law_26 : List UInt8 := [153, 0, 7, 4, 167, 0, 4, 3, 45, 184, 0, 142, 54, 5, 44, 42, 21, 4, 4, 96, 46, 153, 0, 7]
abbrev dktL_law_26 : List UInt8 := dkwL_law_26 ++ dktL_law_27
def dkwL_law_25 : List UInt8 := [153, 0, 7, 4, 167, 0, 4, 3, 182, 0, 141, 159, 3, 145, 3, 172, 43, 42, 21, 4, 4, 96, 46]
abbrev dktL_law_25 : List UInt8 := dkwL_law_25 ++ dktL_law_26
def dkwL_law_24 : List UInt8 := [21, 4, 4, 96, 46, 153, 0, 7, 4, 167, 0, 4, 3, 182, 0, 138, 44, 42, 21, 4, 4, 96, 46]
abbrev dktL_law_24 : List UInt8 := dkwL_law_24 ++ dktL_law_25
def dkwL_law_23 : List UInt8 := [172, 21, 5, 154, 0, 15, 45, 3, 47, 21, 6, 133, 148, 153, 0, 5, 3, 172, 167, 3, 184, 43, 42]
abbrev dktL_law_23 : List UInt8 := dkwL_law_23 ++ dktL_law_24
def dkwL_law_22 : List UInt8 := [54, 5, 44, 42, 21, 4, 4, 96, 46, 182, 0, 137, 54, 6, 44, 182, 0, 100, 21, 5, 159, 0, 5, 3]
abbrev dktL_law_22 : List UInt8 := dkwL_law_22 ++ dktL_law_23
def dkwL_law_21 : List UInt8 := [21, 6, 133, 148, 153, 0, 5, 3, 172, 167, 3, 240, 43, 42, 21, 4, 4, 96, 46, 45, 184, 0, 135]
abbrev dktL_law_21 : List UInt8 := dkwL_law_21 ++ dktL_law_22
def dkwL_law_20 : List UInt8 := [182, 0, 134, 54, 6, 44, 182, 0, 100, 21, 5, 159, 0, 5, 3, 172, 21, 5, 154, 0, 15, 45, 3, 47]
abbrev dktL_law_20 : List UInt8 := dkwL_law_20 ++ dktL_law_21
def dkwL_law_19 : List UInt8 := [167, 4, 40, 43, 42, 21, 4, 4, 96, 46, 45, 184, 0, 132, 54, 5, 44, 42, 21, 4, 4, 96, 46]
abbrev dktL_law_19 : List UInt8 := dkwL_law_19 ++ dktL_law_20
def dkwL_law_18 : List UInt8 := [159, 0, 5, 3, 172, 21, 5, 154, 0, 15, 45, 3, 47, 21, 6, 133, 148, 153, 0, 5, 3, 172]
abbrev dktL_law_18 : List UInt8 := dkwL_law_18 ++ dktL_law_19
def dkwL_law_17 : List UInt8 := [184, 0, 129, 54, 5, 44, 42, 21, 4, 4, 96, 46, 182, 0, 131, 54, 6, 44, 182, 0, 100, 21, 5]
abbrev dktL_law_17 : List UInt8 := dkwL_law_17 ++ dktL_law_18
def dkwL_law_16 : List UInt8 := [167, 4, 109, 43, 182, 0, 125, 44, 182, 0, 128, 159, 4, 98, 3, 172, 43, 42, 21, 4, 4, 96, 46, 45]
abbrev dktL_law_16 : List UInt8 := dkwL_law_16 ++ dktL_law_17
def dkwL_law_15 : List UInt8 := [159, 0, 5, 3, 172, 21, 5, 154, 0, 15, 45, 3, 47, 21, 6, 133, 148, 153, 0, 5, 3, 172]
abbrev dktL_law_15 : List UInt8 := dkwL_law_15 ++ dktL_law_16
def dkwL_law_14 : List UInt8 := [184, 0, 122, 54, 5, 44, 42, 21, 4, 4, 96, 46, 182, 0, 124, 54, 6, 44, 182, 0, 100, 21, 5]
abbrev dktL_law_14 : List UInt8 := dkwL_law_14 ++ dktL_law_15
def dkwL_law_13 : List UInt8 := [3, 47, 21, 6, 133, 148, 153, 0, 5, 3, 172, 167, 4, 165, 43, 42, 21, 4, 4, 96, 46, 45]
abbrev dktL_law_13 : List UInt8 := dkwL_law_13 ++ dktL_law_14
def dkwL_law_12 : List UInt8 := [96, 46, 182, 0, 121, 54, 6, 44, 182, 0, 100, 21, 5, 159, 0, 5, 3, 172, 21, 5, 154, 0, 15, 45]
abbrev dktL_law_12 : List UInt8 := dkwL_law_12 ++ dktL_law_13
def dkwL_law_11 : List UInt8 := [46, 42, 21, 4, 5, 96, 46, 45, 184, 0, 118, 54, 5, 44, 42, 21, 4, 4, 96, 46, 42, 21, 4, 5]
abbrev dktL_law_11 : List UInt8 := dkwL_law_11 ++ dktL_law_12
def dkwL_law_10 : List UInt8 := [154, 0, 15, 45, 3, 47, 21, 6, 133, 148, 153, 0, 5, 3, 172, 167, 4, 233, 43, 42, 21, 4, 4, 96]
abbrev dktL_law_10 : List UInt8 := dkwL_law_10 ++ dktL_law_11
def dkwL_law_9 : List UInt8 := [21, 4, 4, 96, 46, 182, 0, 117, 54, 6, 44, 182, 0, 100, 21, 5, 159, 0, 5, 3, 172, 21, 5]
abbrev dktL_law_9 : List UInt8 := dkwL_law_9 ++ dktL_law_10
def dkwL_law_8 : List UInt8 := [148, 153, 0, 5, 3, 172, 167, 5, 33, 43, 42, 21, 4, 4, 96, 46, 45, 184, 0, 115, 54, 5, 44, 42]
abbrev dktL_law_8 : List UInt8 := dkwL_law_8 ++ dktL_law_9
def dkwL_law_7 : List UInt8 := [54, 6, 44, 182, 0, 100, 21, 5, 159, 0, 5, 3, 172, 21, 5, 154, 0, 15, 45, 3, 47, 21, 6, 133]
abbrev dktL_law_7 : List UInt8 := dkwL_law_7 ++ dktL_law_8
def dkwL_law_6 : List UInt8 := [182, 0, 107, 44, 182, 0, 110, 159, 5, 79, 3, 172, 43, 45, 184, 0, 111, 54, 5, 44, 182, 0, 114]
abbrev dktL_law_6 : List UInt8 := dkwL_law_6 ++ dktL_law_7
def dkwL_law_5 : List UInt8 := [148, 153, 0, 5, 3, 172, 167, 5, 103, 43, 182, 0, 103, 44, 182, 0, 106, 159, 5, 92, 3, 172, 43]
abbrev dktL_law_5 : List UInt8 := dkwL_law_5 ++ dktL_law_6
def dkwL_law_4 : List UInt8 := [54, 6, 44, 182, 0, 100, 21, 5, 159, 0, 5, 3, 172, 21, 5, 154, 0, 15, 45, 3, 47, 21, 6, 133]
abbrev dktL_law_4 : List UInt8 := dkwL_law_4 ++ dktL_law_5
def dkwL_law_3 : List UInt8 := [43, 42, 21, 4, 4, 96, 46, 45, 184, 0, 94, 54, 5, 44, 42, 21, 4, 4, 96, 46, 182, 0, 99]
abbrev dktL_law_3 : List UInt8 := dkwL_law_3 ++ dktL_law_4
def dkwL_law_2 : List UInt8 := [170, 0, 0, 6, 21, 0, 0, 0, 0, 0, 0, 0, 26, 0, 0, 0, 121, 0, 0, 0, 177, 0, 0, 0, 190, 0, 0, 0, 203, 0, 0, 0, 247, 0, 0, 1, 47, 0, 0, 1, 115, 0, 0, 1, 171, 0, 0, 1, 184, 0, 0, 1, 240, 0, 0, 2, 40, 0, 0, 2, 96, 0, 0, 2, 137, 0, 0, 2, 209, 0, 0, 2, 253, 0, 0, 3, 41, 0, 0, 3, 97, 0, 0, 3, 153, 0, 0, 3, 197, 0, 0, 3, 241, 0, 0, 4, 53, 0, 0, 4, 97, 0, 0, 4, 153, 0, 0, 4, 221, 0, 0, 5, 65, 0, 0, 5, 165, 0, 0, 5, 221]
abbrev dktL_law_2 : List UInt8 := dkwL_law_2 ++ dktL_law_3
def dkwL_law_1 : List UInt8 := [21, 4, 42, 190, 7, 100, 163, 6, 37, 42, 21, 4, 46, 16, 31, 126]
abbrev dktL_law_1 : List UInt8 := dkwL_law_1 ++ dktL_law_2
def dkwL_law_0 : List UInt8 := [187, 0, 8, 89, 183, 0, 90, 76, 187, 0, 91, 89, 183, 0, 93, 77, 4, 188, 11, 78, 3, 54, 4]
abbrev dktL_law_0 : List UInt8 := dkwL_law_0 ++ dktL_law_1
theorem dksL_law_0 : cL_law.data.toList.drop 0 = dktL_law_0 := by decide +kernel
theorem dksL_law_1 : cL_law.data.toList.drop 23 = dktL_law_1 := dk_seg dksL_law_0 23 rfl rfl
theorem dksL_law_2 : cL_law.data.toList.drop 39 = dktL_law_2 := dk_seg dksL_law_1 16 rfl rfl
theorem dksL_law_3 : cL_law.data.toList.drop 160 = dktL_law_3 := dk_seg dksL_law_2 121 rfl rfl
theorem dksL_law_4 : cL_law.data.toList.drop 183 = dktL_law_4 := dk_seg dksL_law_3 23 rfl rfl
theorem dksL_law_5 : cL_law.data.toList.drop 207 = dktL_law_5 := dk_seg dksL_law_4 24 rfl rfl
theorem dksL_law_6 : cL_law.data.toList.drop 230 = dktL_law_6 := dk_seg dksL_law_5 23 rfl rfl
theorem dksL_law_7 : cL_law.data.toList.drop 253 = dktL_law_7 := dk_seg dksL_law_6 23 rfl rfl
theorem dksL_law_8 : cL_law.data.toList.drop 277 = dktL_law_8 := dk_seg dksL_law_7 24 rfl rfl
theorem dksL_law_9 : cL_law.data.toList.drop 301 = dktL_law_9 := dk_seg dksL_law_8 24 rfl rfl
theorem dksL_law_10 : cL_law.data.toList.drop 324 = dktL_law_10 := dk_seg dksL_law_9 23 rfl rfl
theorem dksL_law_11 : cL_law.data.toList.drop 348 = dktL_law_11 := dk_seg dksL_law_10 24 rfl rfl
theorem dksL_law_12 : cL_law.data.toList.drop 372 = dktL_law_12 := dk_seg dksL_law_11 24 rfl rfl
theorem dksL_law_13 : cL_law.data.toList.drop 396 = dktL_law_13 := dk_seg dksL_law_12 24 rfl rfl
theorem dksL_law_14 : cL_law.data.toList.drop 418 = dktL_law_14 := dk_seg dksL_law_13 22 rfl rfl
theorem dksL_law_15 : cL_law.data.toList.drop 441 = dktL_law_15 := dk_seg dksL_law_14 23 rfl rfl
theorem dksL_law_16 : cL_law.data.toList.drop 463 = dktL_law_16 := dk_seg dksL_law_15 22 rfl rfl
theorem dksL_law_17 : cL_law.data.toList.drop 487 = dktL_law_17 := dk_seg dksL_law_16 24 rfl rfl
theorem dksL_law_18 : cL_law.data.toList.drop 510 = dktL_law_18 := dk_seg dksL_law_17 23 rfl rfl
theorem dksL_law_19 : cL_law.data.toList.drop 532 = dktL_law_19 := dk_seg dksL_law_18 22 rfl rfl
theorem dksL_law_20 : cL_law.data.toList.drop 555 = dktL_law_20 := dk_seg dksL_law_19 23 rfl rfl
theorem dksL_law_21 : cL_law.data.toList.drop 579 = dktL_law_21 := dk_seg dksL_law_20 24 rfl rfl
theorem dksL_law_22 : cL_law.data.toList.drop 602 = dktL_law_22 := dk_seg dksL_law_21 23 rfl rfl
theorem dksL_law_23 : cL_law.data.toList.drop 626 = dktL_law_23 := dk_seg dksL_law_22 24 rfl rfl
theorem dksL_law_24 : cL_law.data.toList.drop 649 = dktL_law_24 := dk_seg dksL_law_23 23 rfl rfl
theorem dksL_law_25 : cL_law.data.toList.drop 672 = dktL_law_25 := dk_seg dksL_law_24 23 rfl rfl
theorem dksL_law_26 : cL_law.data.toList.drop 695 = dktL_law_26 := dk_seg dksL_law_25 23 rfl rfl
theorem dksL_law_27 : cL_law.data.toList.drop 719 = dktL_law_27 := dk_seg dksL_law_26 24 rfl rfl
theorem dksL_law_28 : cL_law.data.toList.drop 742 = dktL_law_28 := dk_seg dksL_law_27 23 rfl rfl
theorem dksL_law_29 : cL_law.data.toList.drop 765 = dktL_law_29 := dk_seg dksL_law_28 23 rfl rfl
theorem dksL_law_30 : cL_law.data.toList.drop 789 = dktL_law_30 := dk_seg dksL_law_29 24 rfl rfl
theorem dksL_law_31 : cL_law.data.toList.drop 812 = dktL_law_31 := dk_seg dksL_law_30 23 rfl rfl
theorem dksL_law_32 : cL_law.data.toList.drop 836 = dktL_law_32 := dk_seg dksL_law_31 24 rfl rfl
theorem dksL_law_33 : cL_law.data.toList.drop 859 = dktL_law_33 := dk_seg dksL_law_32 23 rfl rfl
theorem dksL_law_34 : cL_law.data.toList.drop 883 = dktL_law_34 := dk_seg dksL_law_33 24 rfl rfl
theorem dksL_law_35 : cL_law.data.toList.drop 906 = dktL_law_35 := dk_seg dksL_law_34 23 rfl rfl
theorem dksL_law_36 : cL_law.data.toList.drop 930 = dktL_law_36 := dk_seg dksL_law_35 24 rfl rfl
theorem dksL_law_37 : cL_law.data.toList.drop 952 = dktL_law_37 := dk_seg dksL_law_36 22 rfl rfl
theorem dksL_law_38 : cL_law.data.toList.drop 974 = dktL_law_38 := dk_seg dksL_law_37 22 rfl rfl
theorem dksL_law_39 : cL_law.data.toList.drop 996 = dktL_law_39 := dk_seg dksL_law_38 22 rfl rfl
theorem dksL_law_40 : cL_law.data.toList.drop 1018 = dktL_law_40 := dk_seg dksL_law_39 22 rfl rfl
theorem dksL_law_41 : cL_law.data.toList.drop 1040 = dktL_law_41 := dk_seg dksL_law_40 22 rfl rfl
theorem dksL_law_42 : cL_law.data.toList.drop 1062 = dktL_law_42 := dk_seg dksL_law_41 22 rfl rfl
theorem dksL_law_43 : cL_law.data.toList.drop 1086 = dktL_law_43 := dk_seg dksL_law_42 24 rfl rfl
theorem dksL_law_44 : cL_law.data.toList.drop 1108 = dktL_law_44 := dk_seg dksL_law_43 22 rfl rfl
theorem dksL_law_45 : cL_law.data.toList.drop 1130 = dktL_law_45 := dk_seg dksL_law_44 22 rfl rfl
theorem dksL_law_46 : cL_law.data.toList.drop 1152 = dktL_law_46 := dk_seg dksL_law_45 22 rfl rfl
theorem dksL_law_47 : cL_law.data.toList.drop 1175 = dktL_law_47 := dk_seg dksL_law_46 23 rfl rfl
theorem dksL_law_48 : cL_law.data.toList.drop 1198 = dktL_law_48 := dk_seg dksL_law_47 23 rfl rfl
theorem dksL_law_49 : cL_law.data.toList.drop 1222 = dktL_law_49 := dk_seg dksL_law_48 24 rfl rfl
theorem dksL_law_50 : cL_law.data.toList.drop 1246 = dktL_law_50 := dk_seg dksL_law_49 24 rfl rfl
theorem dksL_law_51 : cL_law.data.toList.drop 1270 = dktL_law_51 := dk_seg dksL_law_50 24 rfl rfl
theorem dksL_law_52 : cL_law.data.toList.drop 1294 = dktL_law_52 := dk_seg dksL_law_51 24 rfl rfl
theorem dksL_law_53 : cL_law.data.toList.drop 1317 = dktL_law_53 := dk_seg dksL_law_52 23 rfl rfl
theorem dksL_law_54 : cL_law.data.toList.drop 1341 = dktL_law_54 := dk_seg dksL_law_53 24 rfl rfl
theorem dksL_law_55 : cL_law.data.toList.drop 1364 = dktL_law_55 := dk_seg dksL_law_54 23 rfl rfl
theorem dksL_law_56 : cL_law.data.toList.drop 1388 = dktL_law_56 := dk_seg dksL_law_55 24 rfl rfl
theorem dksL_law_57 : cL_law.data.toList.drop 1412 = dktL_law_57 := dk_seg dksL_law_56 24 rfl rfl
theorem dksL_law_58 : cL_law.data.toList.drop 1436 = dktL_law_58 := dk_seg dksL_law_57 24 rfl rfl
theorem dksL_law_59 : cL_law.data.toList.drop 1459 = dktL_law_59 := dk_seg dksL_law_58 23 rfl rfl
theorem dksL_law_60 : cL_law.data.toList.drop 1481 = dktL_law_60 := dk_seg dksL_law_59 22 rfl rfl
theorem dksL_law_61 : cL_law.data.toList.drop 1504 = dktL_law_61 := dk_seg dksL_law_60 23 rfl rfl
theorem dksL_law_62 : cL_law.data.toList.drop 1528 = dktL_law_62 := dk_seg dksL_law_61 24 rfl rfl
theorem dksL_law_63 : cL_law.data.toList.drop 1551 = dktL_law_63 := dk_seg dksL_law_62 23 rfl rfl
theorem dksL_law_64 : cL_law.data.toList.drop 1575 = dktL_law_64 := dk_seg dksL_law_63 24 rfl rfl
theorem dksL_law_65 : cL_law.data.toList.drop 1599 = dktL_law_65 := dk_seg dksL_law_64 24 rfl rfl
theorem dL_law_0 : decode cL_law 0 = .ok (.new 8, 3) := dk_187 0 8 (dk_at dksL_law_0 0 rfl rfl)
theorem dL_law_3 : decode cL_law 3 = .ok (.dup, 1) := dk_89 (dk_at dksL_law_0 3 rfl rfl)
theorem dL_law_4 : decode cL_law 4 = .ok (.invokespecial 90, 3) := dk_183 0 90 (dk_at dksL_law_0 4 rfl rfl)
theorem dL_law_7 : decode cL_law 7 = .ok (.astore_n 1, 1) := dk_76 (dk_at dksL_law_0 7 rfl rfl)
theorem dL_law_8 : decode cL_law 8 = .ok (.new 91, 3) := dk_187 0 91 (dk_at dksL_law_0 8 rfl rfl)
theorem dL_law_11 : decode cL_law 11 = .ok (.dup, 1) := dk_89 (dk_at dksL_law_0 11 rfl rfl)
theorem dL_law_12 : decode cL_law 12 = .ok (.invokespecial 93, 3) := dk_183 0 93 (dk_at dksL_law_0 12 rfl rfl)
theorem dL_law_15 : decode cL_law 15 = .ok (.astore_n 2, 1) := dk_77 (dk_at dksL_law_0 15 rfl rfl)
theorem dL_law_16 : decode cL_law 16 = .ok (.iconst 1, 1) := dk_4 (dk_at dksL_law_0 16 rfl rfl)
theorem dL_law_17 : decode cL_law 17 = .ok (.newarray .long, 2) := dk_188_11 (dk_at dksL_law_0 17 rfl rfl)
theorem dL_law_19 : decode cL_law 19 = .ok (.astore_n 3, 1) := dk_78 (dk_at dksL_law_0 19 rfl rfl)
theorem dL_law_20 : decode cL_law 20 = .ok (.iconst 0, 1) := dk_3 (dk_at dksL_law_0 20 rfl rfl)
theorem dL_law_21 : decode cL_law 21 = .ok (.istore 4, 2) := dk_54 4 (dk_at dksL_law_0 21 rfl rfl)
theorem dL_law_23 : decode cL_law 23 = .ok (.iload 4, 2) := dk_21 4 (dk_at dksL_law_1 0 rfl rfl)
theorem dL_law_25 : decode cL_law 25 = .ok (.aload_n 0, 1) := dk_42 (dk_at dksL_law_1 2 rfl rfl)
theorem dL_law_26 : decode cL_law 26 = .ok (.arraylength, 1) := dk_190 (dk_at dksL_law_1 3 rfl rfl)
theorem dL_law_27 : decode cL_law 27 = .ok (.iconst 4, 1) := dk_7 (dk_at dksL_law_1 4 rfl rfl)
theorem dL_law_28 : decode cL_law 28 = .ok (.isub, 1) := dk_100 (dk_at dksL_law_1 5 rfl rfl)
theorem dL_law_29 : decode cL_law 29 = .ok (.if_icmp .gt 1573, 3) := dk_163 6 37 (dk_at dksL_law_1 6 rfl rfl)
theorem dL_law_32 : decode cL_law 32 = .ok (.aload_n 0, 1) := dk_42 (dk_at dksL_law_1 9 rfl rfl)
theorem dL_law_33 : decode cL_law 33 = .ok (.iload 4, 2) := dk_21 4 (dk_at dksL_law_1 10 rfl rfl)
theorem dL_law_35 : decode cL_law 35 = .ok (.iaload, 1) := dk_46 (dk_at dksL_law_1 12 rfl rfl)
theorem dL_law_36 : decode cL_law 36 = .ok (.bipush 31, 2) := dk_16 31 (dk_at dksL_law_1 13 rfl rfl)
theorem dL_law_38 : decode cL_law 38 = .ok (.iand, 1) := dk_126 (dk_at dksL_law_1 15 rfl rfl)
theorem dL_law_39 : decode cL_law 39 = .ok (.tableswitch 1557 0 26 #[121, 177, 190, 203, 247, 303, 371, 427, 440, 496, 552, 608, 649, 721, 765, 809, 865, 921, 965, 1009, 1077, 1121, 1177, 1245, 1345, 1445, 1501], 121) := by decide +kernel
theorem dL_law_160 : decode cL_law 160 = .ok (.aload_n 1, 1) := dk_43 (dk_at dksL_law_3 0 rfl rfl)
theorem dL_law_161 : decode cL_law 161 = .ok (.aload_n 0, 1) := dk_42 (dk_at dksL_law_3 1 rfl rfl)
theorem dL_law_162 : decode cL_law 162 = .ok (.iload 4, 2) := dk_21 4 (dk_at dksL_law_3 2 rfl rfl)
theorem dL_law_164 : decode cL_law 164 = .ok (.iconst 1, 1) := dk_4 (dk_at dksL_law_3 4 rfl rfl)
theorem dL_law_165 : decode cL_law 165 = .ok (.iadd, 1) := dk_96 (dk_at dksL_law_3 5 rfl rfl)
theorem dL_law_166 : decode cL_law 166 = .ok (.iaload, 1) := dk_46 (dk_at dksL_law_3 6 rfl rfl)
theorem dL_law_167 : decode cL_law 167 = .ok (.aload_n 3, 1) := dk_45 (dk_at dksL_law_3 7 rfl rfl)
theorem dL_law_168 : decode cL_law 168 = .ok (.invokestatic 94, 3) := dk_184 0 94 (dk_at dksL_law_3 8 rfl rfl)
theorem dL_law_171 : decode cL_law 171 = .ok (.istore 5, 2) := dk_54 5 (dk_at dksL_law_3 11 rfl rfl)
theorem dL_law_173 : decode cL_law 173 = .ok (.aload_n 2, 1) := dk_44 (dk_at dksL_law_3 13 rfl rfl)
theorem dL_law_174 : decode cL_law 174 = .ok (.aload_n 0, 1) := dk_42 (dk_at dksL_law_3 14 rfl rfl)
theorem dL_law_175 : decode cL_law 175 = .ok (.iload 4, 2) := dk_21 4 (dk_at dksL_law_3 15 rfl rfl)
theorem dL_law_177 : decode cL_law 177 = .ok (.iconst 1, 1) := dk_4 (dk_at dksL_law_3 17 rfl rfl)
theorem dL_law_178 : decode cL_law 178 = .ok (.iadd, 1) := dk_96 (dk_at dksL_law_3 18 rfl rfl)
theorem dL_law_179 : decode cL_law 179 = .ok (.iaload, 1) := dk_46 (dk_at dksL_law_3 19 rfl rfl)
theorem dL_law_180 : decode cL_law 180 = .ok (.invokevirtual 99, 3) := dk_182 0 99 (dk_at dksL_law_3 20 rfl rfl)
theorem dL_law_183 : decode cL_law 183 = .ok (.istore 6, 2) := dk_54 6 (dk_at dksL_law_4 0 rfl rfl)
theorem dL_law_185 : decode cL_law 185 = .ok (.aload_n 2, 1) := dk_44 (dk_at dksL_law_4 2 rfl rfl)
theorem dL_law_186 : decode cL_law 186 = .ok (.invokevirtual 100, 3) := dk_182 0 100 (dk_at dksL_law_4 3 rfl rfl)
theorem dL_law_189 : decode cL_law 189 = .ok (.iload 5, 2) := dk_21 5 (dk_at dksL_law_4 6 rfl rfl)
theorem dL_law_191 : decode cL_law 191 = .ok (.if_icmp .eq 5, 3) := dk_159 0 5 (dk_at dksL_law_4 8 rfl rfl)
theorem dL_law_194 : decode cL_law 194 = .ok (.iconst 0, 1) := dk_3 (dk_at dksL_law_4 11 rfl rfl)
theorem dL_law_195 : decode cL_law 195 = .ok (.ireturn, 1) := dk_172 (dk_at dksL_law_4 12 rfl rfl)
theorem dL_law_196 : decode cL_law 196 = .ok (.iload 5, 2) := dk_21 5 (dk_at dksL_law_4 13 rfl rfl)
theorem dL_law_198 : decode cL_law 198 = .ok (.ifCond .ne 15, 3) := dk_154 0 15 (dk_at dksL_law_4 15 rfl rfl)
theorem dL_law_201 : decode cL_law 201 = .ok (.aload_n 3, 1) := dk_45 (dk_at dksL_law_4 18 rfl rfl)
theorem dL_law_202 : decode cL_law 202 = .ok (.iconst 0, 1) := dk_3 (dk_at dksL_law_4 19 rfl rfl)
theorem dL_law_203 : decode cL_law 203 = .ok (.laload, 1) := dk_47 (dk_at dksL_law_4 20 rfl rfl)
theorem dL_law_204 : decode cL_law 204 = .ok (.iload 6, 2) := dk_21 6 (dk_at dksL_law_4 21 rfl rfl)
theorem dL_law_206 : decode cL_law 206 = .ok (.i2l, 1) := dk_133 (dk_at dksL_law_4 23 rfl rfl)
theorem dL_law_207 : decode cL_law 207 = .ok (.lcmp, 1) := dk_148 (dk_at dksL_law_5 0 rfl rfl)
theorem dL_law_208 : decode cL_law 208 = .ok (.ifCond .eq 5, 3) := dk_153 0 5 (dk_at dksL_law_5 1 rfl rfl)
theorem dL_law_211 : decode cL_law 211 = .ok (.iconst 0, 1) := dk_3 (dk_at dksL_law_5 4 rfl rfl)
theorem dL_law_212 : decode cL_law 212 = .ok (.ireturn, 1) := dk_172 (dk_at dksL_law_5 5 rfl rfl)
theorem dL_law_213 : decode cL_law 213 = .ok (.goto 1383, 3) := dk_167 5 103 (dk_at dksL_law_5 6 rfl rfl)
theorem dL_law_216 : decode cL_law 216 = .ok (.aload_n 1, 1) := dk_43 (dk_at dksL_law_5 9 rfl rfl)
theorem dL_law_217 : decode cL_law 217 = .ok (.invokevirtual 103, 3) := dk_182 0 103 (dk_at dksL_law_5 10 rfl rfl)
theorem dL_law_220 : decode cL_law 220 = .ok (.aload_n 2, 1) := dk_44 (dk_at dksL_law_5 13 rfl rfl)
theorem dL_law_221 : decode cL_law 221 = .ok (.invokevirtual 106, 3) := dk_182 0 106 (dk_at dksL_law_5 14 rfl rfl)
theorem dL_law_224 : decode cL_law 224 = .ok (.if_icmp .eq 1372, 3) := dk_159 5 92 (dk_at dksL_law_5 17 rfl rfl)
theorem dL_law_227 : decode cL_law 227 = .ok (.iconst 0, 1) := dk_3 (dk_at dksL_law_5 20 rfl rfl)
theorem dL_law_228 : decode cL_law 228 = .ok (.ireturn, 1) := dk_172 (dk_at dksL_law_5 21 rfl rfl)
theorem dL_law_229 : decode cL_law 229 = .ok (.aload_n 1, 1) := dk_43 (dk_at dksL_law_5 22 rfl rfl)
theorem dL_law_230 : decode cL_law 230 = .ok (.invokevirtual 107, 3) := dk_182 0 107 (dk_at dksL_law_6 0 rfl rfl)
theorem dL_law_233 : decode cL_law 233 = .ok (.aload_n 2, 1) := dk_44 (dk_at dksL_law_6 3 rfl rfl)
theorem dL_law_234 : decode cL_law 234 = .ok (.invokevirtual 110, 3) := dk_182 0 110 (dk_at dksL_law_6 4 rfl rfl)
theorem dL_law_237 : decode cL_law 237 = .ok (.if_icmp .eq 1359, 3) := dk_159 5 79 (dk_at dksL_law_6 7 rfl rfl)
theorem dL_law_240 : decode cL_law 240 = .ok (.iconst 0, 1) := dk_3 (dk_at dksL_law_6 10 rfl rfl)
theorem dL_law_241 : decode cL_law 241 = .ok (.ireturn, 1) := dk_172 (dk_at dksL_law_6 11 rfl rfl)
theorem dL_law_242 : decode cL_law 242 = .ok (.aload_n 1, 1) := dk_43 (dk_at dksL_law_6 12 rfl rfl)
theorem dL_law_243 : decode cL_law 243 = .ok (.aload_n 3, 1) := dk_45 (dk_at dksL_law_6 13 rfl rfl)
theorem dL_law_244 : decode cL_law 244 = .ok (.invokestatic 111, 3) := dk_184 0 111 (dk_at dksL_law_6 14 rfl rfl)
theorem dL_law_247 : decode cL_law 247 = .ok (.istore 5, 2) := dk_54 5 (dk_at dksL_law_6 17 rfl rfl)
theorem dL_law_249 : decode cL_law 249 = .ok (.aload_n 2, 1) := dk_44 (dk_at dksL_law_6 19 rfl rfl)
theorem dL_law_250 : decode cL_law 250 = .ok (.invokevirtual 114, 3) := dk_182 0 114 (dk_at dksL_law_6 20 rfl rfl)
theorem dL_law_253 : decode cL_law 253 = .ok (.istore 6, 2) := dk_54 6 (dk_at dksL_law_7 0 rfl rfl)
theorem dL_law_255 : decode cL_law 255 = .ok (.aload_n 2, 1) := dk_44 (dk_at dksL_law_7 2 rfl rfl)
theorem dL_law_256 : decode cL_law 256 = .ok (.invokevirtual 100, 3) := dk_182 0 100 (dk_at dksL_law_7 3 rfl rfl)
theorem dL_law_259 : decode cL_law 259 = .ok (.iload 5, 2) := dk_21 5 (dk_at dksL_law_7 6 rfl rfl)
theorem dL_law_261 : decode cL_law 261 = .ok (.if_icmp .eq 5, 3) := dk_159 0 5 (dk_at dksL_law_7 8 rfl rfl)
theorem dL_law_264 : decode cL_law 264 = .ok (.iconst 0, 1) := dk_3 (dk_at dksL_law_7 11 rfl rfl)
theorem dL_law_265 : decode cL_law 265 = .ok (.ireturn, 1) := dk_172 (dk_at dksL_law_7 12 rfl rfl)
theorem dL_law_266 : decode cL_law 266 = .ok (.iload 5, 2) := dk_21 5 (dk_at dksL_law_7 13 rfl rfl)
theorem dL_law_268 : decode cL_law 268 = .ok (.ifCond .ne 15, 3) := dk_154 0 15 (dk_at dksL_law_7 15 rfl rfl)
theorem dL_law_271 : decode cL_law 271 = .ok (.aload_n 3, 1) := dk_45 (dk_at dksL_law_7 18 rfl rfl)
theorem dL_law_272 : decode cL_law 272 = .ok (.iconst 0, 1) := dk_3 (dk_at dksL_law_7 19 rfl rfl)
theorem dL_law_273 : decode cL_law 273 = .ok (.laload, 1) := dk_47 (dk_at dksL_law_7 20 rfl rfl)
theorem dL_law_274 : decode cL_law 274 = .ok (.iload 6, 2) := dk_21 6 (dk_at dksL_law_7 21 rfl rfl)
theorem dL_law_276 : decode cL_law 276 = .ok (.i2l, 1) := dk_133 (dk_at dksL_law_7 23 rfl rfl)
theorem dL_law_277 : decode cL_law 277 = .ok (.lcmp, 1) := dk_148 (dk_at dksL_law_8 0 rfl rfl)
theorem dL_law_278 : decode cL_law 278 = .ok (.ifCond .eq 5, 3) := dk_153 0 5 (dk_at dksL_law_8 1 rfl rfl)
theorem dL_law_281 : decode cL_law 281 = .ok (.iconst 0, 1) := dk_3 (dk_at dksL_law_8 4 rfl rfl)
theorem dL_law_282 : decode cL_law 282 = .ok (.ireturn, 1) := dk_172 (dk_at dksL_law_8 5 rfl rfl)
theorem dL_law_283 : decode cL_law 283 = .ok (.goto 1313, 3) := dk_167 5 33 (dk_at dksL_law_8 6 rfl rfl)
theorem dL_law_286 : decode cL_law 286 = .ok (.aload_n 1, 1) := dk_43 (dk_at dksL_law_8 9 rfl rfl)
theorem dL_law_287 : decode cL_law 287 = .ok (.aload_n 0, 1) := dk_42 (dk_at dksL_law_8 10 rfl rfl)
theorem dL_law_288 : decode cL_law 288 = .ok (.iload 4, 2) := dk_21 4 (dk_at dksL_law_8 11 rfl rfl)
theorem dL_law_290 : decode cL_law 290 = .ok (.iconst 1, 1) := dk_4 (dk_at dksL_law_8 13 rfl rfl)
theorem dL_law_291 : decode cL_law 291 = .ok (.iadd, 1) := dk_96 (dk_at dksL_law_8 14 rfl rfl)
theorem dL_law_292 : decode cL_law 292 = .ok (.iaload, 1) := dk_46 (dk_at dksL_law_8 15 rfl rfl)
theorem dL_law_293 : decode cL_law 293 = .ok (.aload_n 3, 1) := dk_45 (dk_at dksL_law_8 16 rfl rfl)
theorem dL_law_294 : decode cL_law 294 = .ok (.invokestatic 115, 3) := dk_184 0 115 (dk_at dksL_law_8 17 rfl rfl)
theorem dL_law_297 : decode cL_law 297 = .ok (.istore 5, 2) := dk_54 5 (dk_at dksL_law_8 20 rfl rfl)
theorem dL_law_299 : decode cL_law 299 = .ok (.aload_n 2, 1) := dk_44 (dk_at dksL_law_8 22 rfl rfl)
theorem dL_law_300 : decode cL_law 300 = .ok (.aload_n 0, 1) := dk_42 (dk_at dksL_law_8 23 rfl rfl)
theorem dL_law_301 : decode cL_law 301 = .ok (.iload 4, 2) := dk_21 4 (dk_at dksL_law_9 0 rfl rfl)
theorem dL_law_303 : decode cL_law 303 = .ok (.iconst 1, 1) := dk_4 (dk_at dksL_law_9 2 rfl rfl)
theorem dL_law_304 : decode cL_law 304 = .ok (.iadd, 1) := dk_96 (dk_at dksL_law_9 3 rfl rfl)
theorem dL_law_305 : decode cL_law 305 = .ok (.iaload, 1) := dk_46 (dk_at dksL_law_9 4 rfl rfl)
theorem dL_law_306 : decode cL_law 306 = .ok (.invokevirtual 117, 3) := dk_182 0 117 (dk_at dksL_law_9 5 rfl rfl)
theorem dL_law_309 : decode cL_law 309 = .ok (.istore 6, 2) := dk_54 6 (dk_at dksL_law_9 8 rfl rfl)
theorem dL_law_311 : decode cL_law 311 = .ok (.aload_n 2, 1) := dk_44 (dk_at dksL_law_9 10 rfl rfl)
theorem dL_law_312 : decode cL_law 312 = .ok (.invokevirtual 100, 3) := dk_182 0 100 (dk_at dksL_law_9 11 rfl rfl)
theorem dL_law_315 : decode cL_law 315 = .ok (.iload 5, 2) := dk_21 5 (dk_at dksL_law_9 14 rfl rfl)
theorem dL_law_317 : decode cL_law 317 = .ok (.if_icmp .eq 5, 3) := dk_159 0 5 (dk_at dksL_law_9 16 rfl rfl)
theorem dL_law_320 : decode cL_law 320 = .ok (.iconst 0, 1) := dk_3 (dk_at dksL_law_9 19 rfl rfl)
theorem dL_law_321 : decode cL_law 321 = .ok (.ireturn, 1) := dk_172 (dk_at dksL_law_9 20 rfl rfl)
theorem dL_law_322 : decode cL_law 322 = .ok (.iload 5, 2) := dk_21 5 (dk_at dksL_law_9 21 rfl rfl)
theorem dL_law_324 : decode cL_law 324 = .ok (.ifCond .ne 15, 3) := dk_154 0 15 (dk_at dksL_law_10 0 rfl rfl)
theorem dL_law_327 : decode cL_law 327 = .ok (.aload_n 3, 1) := dk_45 (dk_at dksL_law_10 3 rfl rfl)
theorem dL_law_328 : decode cL_law 328 = .ok (.iconst 0, 1) := dk_3 (dk_at dksL_law_10 4 rfl rfl)
theorem dL_law_329 : decode cL_law 329 = .ok (.laload, 1) := dk_47 (dk_at dksL_law_10 5 rfl rfl)
theorem dL_law_330 : decode cL_law 330 = .ok (.iload 6, 2) := dk_21 6 (dk_at dksL_law_10 6 rfl rfl)
theorem dL_law_332 : decode cL_law 332 = .ok (.i2l, 1) := dk_133 (dk_at dksL_law_10 8 rfl rfl)
theorem dL_law_333 : decode cL_law 333 = .ok (.lcmp, 1) := dk_148 (dk_at dksL_law_10 9 rfl rfl)
theorem dL_law_334 : decode cL_law 334 = .ok (.ifCond .eq 5, 3) := dk_153 0 5 (dk_at dksL_law_10 10 rfl rfl)
theorem dL_law_337 : decode cL_law 337 = .ok (.iconst 0, 1) := dk_3 (dk_at dksL_law_10 13 rfl rfl)
theorem dL_law_338 : decode cL_law 338 = .ok (.ireturn, 1) := dk_172 (dk_at dksL_law_10 14 rfl rfl)
theorem dL_law_339 : decode cL_law 339 = .ok (.goto 1257, 3) := dk_167 4 233 (dk_at dksL_law_10 15 rfl rfl)
theorem dL_law_342 : decode cL_law 342 = .ok (.aload_n 1, 1) := dk_43 (dk_at dksL_law_10 18 rfl rfl)
theorem dL_law_343 : decode cL_law 343 = .ok (.aload_n 0, 1) := dk_42 (dk_at dksL_law_10 19 rfl rfl)
theorem dL_law_344 : decode cL_law 344 = .ok (.iload 4, 2) := dk_21 4 (dk_at dksL_law_10 20 rfl rfl)
theorem dL_law_346 : decode cL_law 346 = .ok (.iconst 1, 1) := dk_4 (dk_at dksL_law_10 22 rfl rfl)
theorem dL_law_347 : decode cL_law 347 = .ok (.iadd, 1) := dk_96 (dk_at dksL_law_10 23 rfl rfl)
theorem dL_law_348 : decode cL_law 348 = .ok (.iaload, 1) := dk_46 (dk_at dksL_law_11 0 rfl rfl)
theorem dL_law_349 : decode cL_law 349 = .ok (.aload_n 0, 1) := dk_42 (dk_at dksL_law_11 1 rfl rfl)
theorem dL_law_350 : decode cL_law 350 = .ok (.iload 4, 2) := dk_21 4 (dk_at dksL_law_11 2 rfl rfl)
theorem dL_law_352 : decode cL_law 352 = .ok (.iconst 2, 1) := dk_5 (dk_at dksL_law_11 4 rfl rfl)
theorem dL_law_353 : decode cL_law 353 = .ok (.iadd, 1) := dk_96 (dk_at dksL_law_11 5 rfl rfl)
theorem dL_law_354 : decode cL_law 354 = .ok (.iaload, 1) := dk_46 (dk_at dksL_law_11 6 rfl rfl)
theorem dL_law_355 : decode cL_law 355 = .ok (.aload_n 3, 1) := dk_45 (dk_at dksL_law_11 7 rfl rfl)
theorem dL_law_356 : decode cL_law 356 = .ok (.invokestatic 118, 3) := dk_184 0 118 (dk_at dksL_law_11 8 rfl rfl)
theorem dL_law_359 : decode cL_law 359 = .ok (.istore 5, 2) := dk_54 5 (dk_at dksL_law_11 11 rfl rfl)
theorem dL_law_361 : decode cL_law 361 = .ok (.aload_n 2, 1) := dk_44 (dk_at dksL_law_11 13 rfl rfl)
theorem dL_law_362 : decode cL_law 362 = .ok (.aload_n 0, 1) := dk_42 (dk_at dksL_law_11 14 rfl rfl)
theorem dL_law_363 : decode cL_law 363 = .ok (.iload 4, 2) := dk_21 4 (dk_at dksL_law_11 15 rfl rfl)
theorem dL_law_365 : decode cL_law 365 = .ok (.iconst 1, 1) := dk_4 (dk_at dksL_law_11 17 rfl rfl)
theorem dL_law_366 : decode cL_law 366 = .ok (.iadd, 1) := dk_96 (dk_at dksL_law_11 18 rfl rfl)
theorem dL_law_367 : decode cL_law 367 = .ok (.iaload, 1) := dk_46 (dk_at dksL_law_11 19 rfl rfl)
theorem dL_law_368 : decode cL_law 368 = .ok (.aload_n 0, 1) := dk_42 (dk_at dksL_law_11 20 rfl rfl)
theorem dL_law_369 : decode cL_law 369 = .ok (.iload 4, 2) := dk_21 4 (dk_at dksL_law_11 21 rfl rfl)
theorem dL_law_371 : decode cL_law 371 = .ok (.iconst 2, 1) := dk_5 (dk_at dksL_law_11 23 rfl rfl)
theorem dL_law_372 : decode cL_law 372 = .ok (.iadd, 1) := dk_96 (dk_at dksL_law_12 0 rfl rfl)
theorem dL_law_373 : decode cL_law 373 = .ok (.iaload, 1) := dk_46 (dk_at dksL_law_12 1 rfl rfl)
theorem dL_law_374 : decode cL_law 374 = .ok (.invokevirtual 121, 3) := dk_182 0 121 (dk_at dksL_law_12 2 rfl rfl)
theorem dL_law_377 : decode cL_law 377 = .ok (.istore 6, 2) := dk_54 6 (dk_at dksL_law_12 5 rfl rfl)
theorem dL_law_379 : decode cL_law 379 = .ok (.aload_n 2, 1) := dk_44 (dk_at dksL_law_12 7 rfl rfl)
theorem dL_law_380 : decode cL_law 380 = .ok (.invokevirtual 100, 3) := dk_182 0 100 (dk_at dksL_law_12 8 rfl rfl)
theorem dL_law_383 : decode cL_law 383 = .ok (.iload 5, 2) := dk_21 5 (dk_at dksL_law_12 11 rfl rfl)
theorem dL_law_385 : decode cL_law 385 = .ok (.if_icmp .eq 5, 3) := dk_159 0 5 (dk_at dksL_law_12 13 rfl rfl)
theorem dL_law_388 : decode cL_law 388 = .ok (.iconst 0, 1) := dk_3 (dk_at dksL_law_12 16 rfl rfl)
theorem dL_law_389 : decode cL_law 389 = .ok (.ireturn, 1) := dk_172 (dk_at dksL_law_12 17 rfl rfl)
theorem dL_law_390 : decode cL_law 390 = .ok (.iload 5, 2) := dk_21 5 (dk_at dksL_law_12 18 rfl rfl)
theorem dL_law_392 : decode cL_law 392 = .ok (.ifCond .ne 15, 3) := dk_154 0 15 (dk_at dksL_law_12 20 rfl rfl)
theorem dL_law_395 : decode cL_law 395 = .ok (.aload_n 3, 1) := dk_45 (dk_at dksL_law_12 23 rfl rfl)
theorem dL_law_396 : decode cL_law 396 = .ok (.iconst 0, 1) := dk_3 (dk_at dksL_law_13 0 rfl rfl)
theorem dL_law_397 : decode cL_law 397 = .ok (.laload, 1) := dk_47 (dk_at dksL_law_13 1 rfl rfl)
theorem dL_law_398 : decode cL_law 398 = .ok (.iload 6, 2) := dk_21 6 (dk_at dksL_law_13 2 rfl rfl)
theorem dL_law_400 : decode cL_law 400 = .ok (.i2l, 1) := dk_133 (dk_at dksL_law_13 4 rfl rfl)
theorem dL_law_401 : decode cL_law 401 = .ok (.lcmp, 1) := dk_148 (dk_at dksL_law_13 5 rfl rfl)
theorem dL_law_402 : decode cL_law 402 = .ok (.ifCond .eq 5, 3) := dk_153 0 5 (dk_at dksL_law_13 6 rfl rfl)
theorem dL_law_405 : decode cL_law 405 = .ok (.iconst 0, 1) := dk_3 (dk_at dksL_law_13 9 rfl rfl)
theorem dL_law_406 : decode cL_law 406 = .ok (.ireturn, 1) := dk_172 (dk_at dksL_law_13 10 rfl rfl)
theorem dL_law_407 : decode cL_law 407 = .ok (.goto 1189, 3) := dk_167 4 165 (dk_at dksL_law_13 11 rfl rfl)
theorem dL_law_410 : decode cL_law 410 = .ok (.aload_n 1, 1) := dk_43 (dk_at dksL_law_13 14 rfl rfl)
theorem dL_law_411 : decode cL_law 411 = .ok (.aload_n 0, 1) := dk_42 (dk_at dksL_law_13 15 rfl rfl)
theorem dL_law_412 : decode cL_law 412 = .ok (.iload 4, 2) := dk_21 4 (dk_at dksL_law_13 16 rfl rfl)
theorem dL_law_414 : decode cL_law 414 = .ok (.iconst 1, 1) := dk_4 (dk_at dksL_law_13 18 rfl rfl)
theorem dL_law_415 : decode cL_law 415 = .ok (.iadd, 1) := dk_96 (dk_at dksL_law_13 19 rfl rfl)
theorem dL_law_416 : decode cL_law 416 = .ok (.iaload, 1) := dk_46 (dk_at dksL_law_13 20 rfl rfl)
theorem dL_law_417 : decode cL_law 417 = .ok (.aload_n 3, 1) := dk_45 (dk_at dksL_law_13 21 rfl rfl)
theorem dL_law_418 : decode cL_law 418 = .ok (.invokestatic 122, 3) := dk_184 0 122 (dk_at dksL_law_14 0 rfl rfl)
theorem dL_law_421 : decode cL_law 421 = .ok (.istore 5, 2) := dk_54 5 (dk_at dksL_law_14 3 rfl rfl)
theorem dL_law_423 : decode cL_law 423 = .ok (.aload_n 2, 1) := dk_44 (dk_at dksL_law_14 5 rfl rfl)
theorem dL_law_424 : decode cL_law 424 = .ok (.aload_n 0, 1) := dk_42 (dk_at dksL_law_14 6 rfl rfl)
theorem dL_law_425 : decode cL_law 425 = .ok (.iload 4, 2) := dk_21 4 (dk_at dksL_law_14 7 rfl rfl)
theorem dL_law_427 : decode cL_law 427 = .ok (.iconst 1, 1) := dk_4 (dk_at dksL_law_14 9 rfl rfl)
theorem dL_law_428 : decode cL_law 428 = .ok (.iadd, 1) := dk_96 (dk_at dksL_law_14 10 rfl rfl)
theorem dL_law_429 : decode cL_law 429 = .ok (.iaload, 1) := dk_46 (dk_at dksL_law_14 11 rfl rfl)
theorem dL_law_430 : decode cL_law 430 = .ok (.invokevirtual 124, 3) := dk_182 0 124 (dk_at dksL_law_14 12 rfl rfl)
theorem dL_law_433 : decode cL_law 433 = .ok (.istore 6, 2) := dk_54 6 (dk_at dksL_law_14 15 rfl rfl)
theorem dL_law_435 : decode cL_law 435 = .ok (.aload_n 2, 1) := dk_44 (dk_at dksL_law_14 17 rfl rfl)
theorem dL_law_436 : decode cL_law 436 = .ok (.invokevirtual 100, 3) := dk_182 0 100 (dk_at dksL_law_14 18 rfl rfl)
theorem dL_law_439 : decode cL_law 439 = .ok (.iload 5, 2) := dk_21 5 (dk_at dksL_law_14 21 rfl rfl)
theorem dL_law_441 : decode cL_law 441 = .ok (.if_icmp .eq 5, 3) := dk_159 0 5 (dk_at dksL_law_15 0 rfl rfl)
theorem dL_law_444 : decode cL_law 444 = .ok (.iconst 0, 1) := dk_3 (dk_at dksL_law_15 3 rfl rfl)
theorem dL_law_445 : decode cL_law 445 = .ok (.ireturn, 1) := dk_172 (dk_at dksL_law_15 4 rfl rfl)
theorem dL_law_446 : decode cL_law 446 = .ok (.iload 5, 2) := dk_21 5 (dk_at dksL_law_15 5 rfl rfl)
theorem dL_law_448 : decode cL_law 448 = .ok (.ifCond .ne 15, 3) := dk_154 0 15 (dk_at dksL_law_15 7 rfl rfl)
theorem dL_law_451 : decode cL_law 451 = .ok (.aload_n 3, 1) := dk_45 (dk_at dksL_law_15 10 rfl rfl)
theorem dL_law_452 : decode cL_law 452 = .ok (.iconst 0, 1) := dk_3 (dk_at dksL_law_15 11 rfl rfl)
theorem dL_law_453 : decode cL_law 453 = .ok (.laload, 1) := dk_47 (dk_at dksL_law_15 12 rfl rfl)
theorem dL_law_454 : decode cL_law 454 = .ok (.iload 6, 2) := dk_21 6 (dk_at dksL_law_15 13 rfl rfl)
theorem dL_law_456 : decode cL_law 456 = .ok (.i2l, 1) := dk_133 (dk_at dksL_law_15 15 rfl rfl)
theorem dL_law_457 : decode cL_law 457 = .ok (.lcmp, 1) := dk_148 (dk_at dksL_law_15 16 rfl rfl)
theorem dL_law_458 : decode cL_law 458 = .ok (.ifCond .eq 5, 3) := dk_153 0 5 (dk_at dksL_law_15 17 rfl rfl)
theorem dL_law_461 : decode cL_law 461 = .ok (.iconst 0, 1) := dk_3 (dk_at dksL_law_15 20 rfl rfl)
theorem dL_law_462 : decode cL_law 462 = .ok (.ireturn, 1) := dk_172 (dk_at dksL_law_15 21 rfl rfl)
theorem dL_law_463 : decode cL_law 463 = .ok (.goto 1133, 3) := dk_167 4 109 (dk_at dksL_law_16 0 rfl rfl)
theorem dL_law_466 : decode cL_law 466 = .ok (.aload_n 1, 1) := dk_43 (dk_at dksL_law_16 3 rfl rfl)
theorem dL_law_467 : decode cL_law 467 = .ok (.invokevirtual 125, 3) := dk_182 0 125 (dk_at dksL_law_16 4 rfl rfl)
theorem dL_law_470 : decode cL_law 470 = .ok (.aload_n 2, 1) := dk_44 (dk_at dksL_law_16 7 rfl rfl)
theorem dL_law_471 : decode cL_law 471 = .ok (.invokevirtual 128, 3) := dk_182 0 128 (dk_at dksL_law_16 8 rfl rfl)
theorem dL_law_474 : decode cL_law 474 = .ok (.if_icmp .eq 1122, 3) := dk_159 4 98 (dk_at dksL_law_16 11 rfl rfl)
theorem dL_law_477 : decode cL_law 477 = .ok (.iconst 0, 1) := dk_3 (dk_at dksL_law_16 14 rfl rfl)
theorem dL_law_478 : decode cL_law 478 = .ok (.ireturn, 1) := dk_172 (dk_at dksL_law_16 15 rfl rfl)
theorem dL_law_479 : decode cL_law 479 = .ok (.aload_n 1, 1) := dk_43 (dk_at dksL_law_16 16 rfl rfl)
theorem dL_law_480 : decode cL_law 480 = .ok (.aload_n 0, 1) := dk_42 (dk_at dksL_law_16 17 rfl rfl)
theorem dL_law_481 : decode cL_law 481 = .ok (.iload 4, 2) := dk_21 4 (dk_at dksL_law_16 18 rfl rfl)
theorem dL_law_483 : decode cL_law 483 = .ok (.iconst 1, 1) := dk_4 (dk_at dksL_law_16 20 rfl rfl)
theorem dL_law_484 : decode cL_law 484 = .ok (.iadd, 1) := dk_96 (dk_at dksL_law_16 21 rfl rfl)
theorem dL_law_485 : decode cL_law 485 = .ok (.iaload, 1) := dk_46 (dk_at dksL_law_16 22 rfl rfl)
theorem dL_law_486 : decode cL_law 486 = .ok (.aload_n 3, 1) := dk_45 (dk_at dksL_law_16 23 rfl rfl)
theorem dL_law_487 : decode cL_law 487 = .ok (.invokestatic 129, 3) := dk_184 0 129 (dk_at dksL_law_17 0 rfl rfl)
theorem dL_law_490 : decode cL_law 490 = .ok (.istore 5, 2) := dk_54 5 (dk_at dksL_law_17 3 rfl rfl)
theorem dL_law_492 : decode cL_law 492 = .ok (.aload_n 2, 1) := dk_44 (dk_at dksL_law_17 5 rfl rfl)
theorem dL_law_493 : decode cL_law 493 = .ok (.aload_n 0, 1) := dk_42 (dk_at dksL_law_17 6 rfl rfl)
theorem dL_law_494 : decode cL_law 494 = .ok (.iload 4, 2) := dk_21 4 (dk_at dksL_law_17 7 rfl rfl)
theorem dL_law_496 : decode cL_law 496 = .ok (.iconst 1, 1) := dk_4 (dk_at dksL_law_17 9 rfl rfl)
theorem dL_law_497 : decode cL_law 497 = .ok (.iadd, 1) := dk_96 (dk_at dksL_law_17 10 rfl rfl)
theorem dL_law_498 : decode cL_law 498 = .ok (.iaload, 1) := dk_46 (dk_at dksL_law_17 11 rfl rfl)
theorem dL_law_499 : decode cL_law 499 = .ok (.invokevirtual 131, 3) := dk_182 0 131 (dk_at dksL_law_17 12 rfl rfl)
theorem dL_law_502 : decode cL_law 502 = .ok (.istore 6, 2) := dk_54 6 (dk_at dksL_law_17 15 rfl rfl)
theorem dL_law_504 : decode cL_law 504 = .ok (.aload_n 2, 1) := dk_44 (dk_at dksL_law_17 17 rfl rfl)
theorem dL_law_505 : decode cL_law 505 = .ok (.invokevirtual 100, 3) := dk_182 0 100 (dk_at dksL_law_17 18 rfl rfl)
theorem dL_law_508 : decode cL_law 508 = .ok (.iload 5, 2) := dk_21 5 (dk_at dksL_law_17 21 rfl rfl)
theorem dL_law_510 : decode cL_law 510 = .ok (.if_icmp .eq 5, 3) := dk_159 0 5 (dk_at dksL_law_18 0 rfl rfl)
theorem dL_law_513 : decode cL_law 513 = .ok (.iconst 0, 1) := dk_3 (dk_at dksL_law_18 3 rfl rfl)
theorem dL_law_514 : decode cL_law 514 = .ok (.ireturn, 1) := dk_172 (dk_at dksL_law_18 4 rfl rfl)
theorem dL_law_515 : decode cL_law 515 = .ok (.iload 5, 2) := dk_21 5 (dk_at dksL_law_18 5 rfl rfl)
theorem dL_law_517 : decode cL_law 517 = .ok (.ifCond .ne 15, 3) := dk_154 0 15 (dk_at dksL_law_18 7 rfl rfl)
theorem dL_law_520 : decode cL_law 520 = .ok (.aload_n 3, 1) := dk_45 (dk_at dksL_law_18 10 rfl rfl)
theorem dL_law_521 : decode cL_law 521 = .ok (.iconst 0, 1) := dk_3 (dk_at dksL_law_18 11 rfl rfl)
theorem dL_law_522 : decode cL_law 522 = .ok (.laload, 1) := dk_47 (dk_at dksL_law_18 12 rfl rfl)
theorem dL_law_523 : decode cL_law 523 = .ok (.iload 6, 2) := dk_21 6 (dk_at dksL_law_18 13 rfl rfl)
theorem dL_law_525 : decode cL_law 525 = .ok (.i2l, 1) := dk_133 (dk_at dksL_law_18 15 rfl rfl)
theorem dL_law_526 : decode cL_law 526 = .ok (.lcmp, 1) := dk_148 (dk_at dksL_law_18 16 rfl rfl)
theorem dL_law_527 : decode cL_law 527 = .ok (.ifCond .eq 5, 3) := dk_153 0 5 (dk_at dksL_law_18 17 rfl rfl)
theorem dL_law_530 : decode cL_law 530 = .ok (.iconst 0, 1) := dk_3 (dk_at dksL_law_18 20 rfl rfl)
theorem dL_law_531 : decode cL_law 531 = .ok (.ireturn, 1) := dk_172 (dk_at dksL_law_18 21 rfl rfl)
theorem dL_law_532 : decode cL_law 532 = .ok (.goto 1064, 3) := dk_167 4 40 (dk_at dksL_law_19 0 rfl rfl)
theorem dL_law_535 : decode cL_law 535 = .ok (.aload_n 1, 1) := dk_43 (dk_at dksL_law_19 3 rfl rfl)
theorem dL_law_536 : decode cL_law 536 = .ok (.aload_n 0, 1) := dk_42 (dk_at dksL_law_19 4 rfl rfl)
theorem dL_law_537 : decode cL_law 537 = .ok (.iload 4, 2) := dk_21 4 (dk_at dksL_law_19 5 rfl rfl)
theorem dL_law_539 : decode cL_law 539 = .ok (.iconst 1, 1) := dk_4 (dk_at dksL_law_19 7 rfl rfl)
theorem dL_law_540 : decode cL_law 540 = .ok (.iadd, 1) := dk_96 (dk_at dksL_law_19 8 rfl rfl)
theorem dL_law_541 : decode cL_law 541 = .ok (.iaload, 1) := dk_46 (dk_at dksL_law_19 9 rfl rfl)
theorem dL_law_542 : decode cL_law 542 = .ok (.aload_n 3, 1) := dk_45 (dk_at dksL_law_19 10 rfl rfl)
theorem dL_law_543 : decode cL_law 543 = .ok (.invokestatic 132, 3) := dk_184 0 132 (dk_at dksL_law_19 11 rfl rfl)
theorem dL_law_546 : decode cL_law 546 = .ok (.istore 5, 2) := dk_54 5 (dk_at dksL_law_19 14 rfl rfl)
theorem dL_law_548 : decode cL_law 548 = .ok (.aload_n 2, 1) := dk_44 (dk_at dksL_law_19 16 rfl rfl)
theorem dL_law_549 : decode cL_law 549 = .ok (.aload_n 0, 1) := dk_42 (dk_at dksL_law_19 17 rfl rfl)
theorem dL_law_550 : decode cL_law 550 = .ok (.iload 4, 2) := dk_21 4 (dk_at dksL_law_19 18 rfl rfl)
theorem dL_law_552 : decode cL_law 552 = .ok (.iconst 1, 1) := dk_4 (dk_at dksL_law_19 20 rfl rfl)
theorem dL_law_553 : decode cL_law 553 = .ok (.iadd, 1) := dk_96 (dk_at dksL_law_19 21 rfl rfl)
theorem dL_law_554 : decode cL_law 554 = .ok (.iaload, 1) := dk_46 (dk_at dksL_law_19 22 rfl rfl)
theorem dL_law_555 : decode cL_law 555 = .ok (.invokevirtual 134, 3) := dk_182 0 134 (dk_at dksL_law_20 0 rfl rfl)
theorem dL_law_558 : decode cL_law 558 = .ok (.istore 6, 2) := dk_54 6 (dk_at dksL_law_20 3 rfl rfl)
theorem dL_law_560 : decode cL_law 560 = .ok (.aload_n 2, 1) := dk_44 (dk_at dksL_law_20 5 rfl rfl)
theorem dL_law_561 : decode cL_law 561 = .ok (.invokevirtual 100, 3) := dk_182 0 100 (dk_at dksL_law_20 6 rfl rfl)
theorem dL_law_564 : decode cL_law 564 = .ok (.iload 5, 2) := dk_21 5 (dk_at dksL_law_20 9 rfl rfl)
theorem dL_law_566 : decode cL_law 566 = .ok (.if_icmp .eq 5, 3) := dk_159 0 5 (dk_at dksL_law_20 11 rfl rfl)
theorem dL_law_569 : decode cL_law 569 = .ok (.iconst 0, 1) := dk_3 (dk_at dksL_law_20 14 rfl rfl)
theorem dL_law_570 : decode cL_law 570 = .ok (.ireturn, 1) := dk_172 (dk_at dksL_law_20 15 rfl rfl)
theorem dL_law_571 : decode cL_law 571 = .ok (.iload 5, 2) := dk_21 5 (dk_at dksL_law_20 16 rfl rfl)
theorem dL_law_573 : decode cL_law 573 = .ok (.ifCond .ne 15, 3) := dk_154 0 15 (dk_at dksL_law_20 18 rfl rfl)
theorem dL_law_576 : decode cL_law 576 = .ok (.aload_n 3, 1) := dk_45 (dk_at dksL_law_20 21 rfl rfl)
theorem dL_law_577 : decode cL_law 577 = .ok (.iconst 0, 1) := dk_3 (dk_at dksL_law_20 22 rfl rfl)
theorem dL_law_578 : decode cL_law 578 = .ok (.laload, 1) := dk_47 (dk_at dksL_law_20 23 rfl rfl)
theorem dL_law_579 : decode cL_law 579 = .ok (.iload 6, 2) := dk_21 6 (dk_at dksL_law_21 0 rfl rfl)
theorem dL_law_581 : decode cL_law 581 = .ok (.i2l, 1) := dk_133 (dk_at dksL_law_21 2 rfl rfl)
theorem dL_law_582 : decode cL_law 582 = .ok (.lcmp, 1) := dk_148 (dk_at dksL_law_21 3 rfl rfl)
theorem dL_law_583 : decode cL_law 583 = .ok (.ifCond .eq 5, 3) := dk_153 0 5 (dk_at dksL_law_21 4 rfl rfl)
theorem dL_law_586 : decode cL_law 586 = .ok (.iconst 0, 1) := dk_3 (dk_at dksL_law_21 7 rfl rfl)
theorem dL_law_587 : decode cL_law 587 = .ok (.ireturn, 1) := dk_172 (dk_at dksL_law_21 8 rfl rfl)
theorem dL_law_588 : decode cL_law 588 = .ok (.goto 1008, 3) := dk_167 3 240 (dk_at dksL_law_21 9 rfl rfl)
theorem dL_law_591 : decode cL_law 591 = .ok (.aload_n 1, 1) := dk_43 (dk_at dksL_law_21 12 rfl rfl)
theorem dL_law_592 : decode cL_law 592 = .ok (.aload_n 0, 1) := dk_42 (dk_at dksL_law_21 13 rfl rfl)
theorem dL_law_593 : decode cL_law 593 = .ok (.iload 4, 2) := dk_21 4 (dk_at dksL_law_21 14 rfl rfl)
theorem dL_law_595 : decode cL_law 595 = .ok (.iconst 1, 1) := dk_4 (dk_at dksL_law_21 16 rfl rfl)
theorem dL_law_596 : decode cL_law 596 = .ok (.iadd, 1) := dk_96 (dk_at dksL_law_21 17 rfl rfl)
theorem dL_law_597 : decode cL_law 597 = .ok (.iaload, 1) := dk_46 (dk_at dksL_law_21 18 rfl rfl)
theorem dL_law_598 : decode cL_law 598 = .ok (.aload_n 3, 1) := dk_45 (dk_at dksL_law_21 19 rfl rfl)
theorem dL_law_599 : decode cL_law 599 = .ok (.invokestatic 135, 3) := dk_184 0 135 (dk_at dksL_law_21 20 rfl rfl)
theorem dL_law_602 : decode cL_law 602 = .ok (.istore 5, 2) := dk_54 5 (dk_at dksL_law_22 0 rfl rfl)
theorem dL_law_604 : decode cL_law 604 = .ok (.aload_n 2, 1) := dk_44 (dk_at dksL_law_22 2 rfl rfl)
theorem dL_law_605 : decode cL_law 605 = .ok (.aload_n 0, 1) := dk_42 (dk_at dksL_law_22 3 rfl rfl)
theorem dL_law_606 : decode cL_law 606 = .ok (.iload 4, 2) := dk_21 4 (dk_at dksL_law_22 4 rfl rfl)
theorem dL_law_608 : decode cL_law 608 = .ok (.iconst 1, 1) := dk_4 (dk_at dksL_law_22 6 rfl rfl)
theorem dL_law_609 : decode cL_law 609 = .ok (.iadd, 1) := dk_96 (dk_at dksL_law_22 7 rfl rfl)
theorem dL_law_610 : decode cL_law 610 = .ok (.iaload, 1) := dk_46 (dk_at dksL_law_22 8 rfl rfl)
theorem dL_law_611 : decode cL_law 611 = .ok (.invokevirtual 137, 3) := dk_182 0 137 (dk_at dksL_law_22 9 rfl rfl)
theorem dL_law_614 : decode cL_law 614 = .ok (.istore 6, 2) := dk_54 6 (dk_at dksL_law_22 12 rfl rfl)
theorem dL_law_616 : decode cL_law 616 = .ok (.aload_n 2, 1) := dk_44 (dk_at dksL_law_22 14 rfl rfl)
theorem dL_law_617 : decode cL_law 617 = .ok (.invokevirtual 100, 3) := dk_182 0 100 (dk_at dksL_law_22 15 rfl rfl)
theorem dL_law_620 : decode cL_law 620 = .ok (.iload 5, 2) := dk_21 5 (dk_at dksL_law_22 18 rfl rfl)
theorem dL_law_622 : decode cL_law 622 = .ok (.if_icmp .eq 5, 3) := dk_159 0 5 (dk_at dksL_law_22 20 rfl rfl)
theorem dL_law_625 : decode cL_law 625 = .ok (.iconst 0, 1) := dk_3 (dk_at dksL_law_22 23 rfl rfl)
theorem dL_law_626 : decode cL_law 626 = .ok (.ireturn, 1) := dk_172 (dk_at dksL_law_23 0 rfl rfl)
theorem dL_law_627 : decode cL_law 627 = .ok (.iload 5, 2) := dk_21 5 (dk_at dksL_law_23 1 rfl rfl)
theorem dL_law_629 : decode cL_law 629 = .ok (.ifCond .ne 15, 3) := dk_154 0 15 (dk_at dksL_law_23 3 rfl rfl)
theorem dL_law_632 : decode cL_law 632 = .ok (.aload_n 3, 1) := dk_45 (dk_at dksL_law_23 6 rfl rfl)
theorem dL_law_633 : decode cL_law 633 = .ok (.iconst 0, 1) := dk_3 (dk_at dksL_law_23 7 rfl rfl)
theorem dL_law_634 : decode cL_law 634 = .ok (.laload, 1) := dk_47 (dk_at dksL_law_23 8 rfl rfl)
theorem dL_law_635 : decode cL_law 635 = .ok (.iload 6, 2) := dk_21 6 (dk_at dksL_law_23 9 rfl rfl)
theorem dL_law_637 : decode cL_law 637 = .ok (.i2l, 1) := dk_133 (dk_at dksL_law_23 11 rfl rfl)
theorem dL_law_638 : decode cL_law 638 = .ok (.lcmp, 1) := dk_148 (dk_at dksL_law_23 12 rfl rfl)
theorem dL_law_639 : decode cL_law 639 = .ok (.ifCond .eq 5, 3) := dk_153 0 5 (dk_at dksL_law_23 13 rfl rfl)
theorem dL_law_642 : decode cL_law 642 = .ok (.iconst 0, 1) := dk_3 (dk_at dksL_law_23 16 rfl rfl)
theorem dL_law_643 : decode cL_law 643 = .ok (.ireturn, 1) := dk_172 (dk_at dksL_law_23 17 rfl rfl)
theorem dL_law_644 : decode cL_law 644 = .ok (.goto 952, 3) := dk_167 3 184 (dk_at dksL_law_23 18 rfl rfl)
theorem dL_law_647 : decode cL_law 647 = .ok (.aload_n 1, 1) := dk_43 (dk_at dksL_law_23 21 rfl rfl)
theorem dL_law_648 : decode cL_law 648 = .ok (.aload_n 0, 1) := dk_42 (dk_at dksL_law_23 22 rfl rfl)
theorem dL_law_649 : decode cL_law 649 = .ok (.iload 4, 2) := dk_21 4 (dk_at dksL_law_24 0 rfl rfl)
theorem dL_law_651 : decode cL_law 651 = .ok (.iconst 1, 1) := dk_4 (dk_at dksL_law_24 2 rfl rfl)
theorem dL_law_652 : decode cL_law 652 = .ok (.iadd, 1) := dk_96 (dk_at dksL_law_24 3 rfl rfl)
theorem dL_law_653 : decode cL_law 653 = .ok (.iaload, 1) := dk_46 (dk_at dksL_law_24 4 rfl rfl)
theorem dL_law_654 : decode cL_law 654 = .ok (.ifCond .eq 7, 3) := dk_153 0 7 (dk_at dksL_law_24 5 rfl rfl)
theorem dL_law_657 : decode cL_law 657 = .ok (.iconst 1, 1) := dk_4 (dk_at dksL_law_24 8 rfl rfl)
theorem dL_law_658 : decode cL_law 658 = .ok (.goto 4, 3) := dk_167 0 4 (dk_at dksL_law_24 9 rfl rfl)
theorem dL_law_661 : decode cL_law 661 = .ok (.iconst 0, 1) := dk_3 (dk_at dksL_law_24 12 rfl rfl)
theorem dL_law_662 : decode cL_law 662 = .ok (.invokevirtual 138, 3) := dk_182 0 138 (dk_at dksL_law_24 13 rfl rfl)
theorem dL_law_665 : decode cL_law 665 = .ok (.aload_n 2, 1) := dk_44 (dk_at dksL_law_24 16 rfl rfl)
theorem dL_law_666 : decode cL_law 666 = .ok (.aload_n 0, 1) := dk_42 (dk_at dksL_law_24 17 rfl rfl)
theorem dL_law_667 : decode cL_law 667 = .ok (.iload 4, 2) := dk_21 4 (dk_at dksL_law_24 18 rfl rfl)
theorem dL_law_669 : decode cL_law 669 = .ok (.iconst 1, 1) := dk_4 (dk_at dksL_law_24 20 rfl rfl)
theorem dL_law_670 : decode cL_law 670 = .ok (.iadd, 1) := dk_96 (dk_at dksL_law_24 21 rfl rfl)
theorem dL_law_671 : decode cL_law 671 = .ok (.iaload, 1) := dk_46 (dk_at dksL_law_24 22 rfl rfl)
theorem dL_law_672 : decode cL_law 672 = .ok (.ifCond .eq 7, 3) := dk_153 0 7 (dk_at dksL_law_25 0 rfl rfl)
theorem dL_law_675 : decode cL_law 675 = .ok (.iconst 1, 1) := dk_4 (dk_at dksL_law_25 3 rfl rfl)
theorem dL_law_676 : decode cL_law 676 = .ok (.goto 4, 3) := dk_167 0 4 (dk_at dksL_law_25 4 rfl rfl)
theorem dL_law_679 : decode cL_law 679 = .ok (.iconst 0, 1) := dk_3 (dk_at dksL_law_25 7 rfl rfl)
theorem dL_law_680 : decode cL_law 680 = .ok (.invokevirtual 141, 3) := dk_182 0 141 (dk_at dksL_law_25 8 rfl rfl)
theorem dL_law_683 : decode cL_law 683 = .ok (.if_icmp .eq 913, 3) := dk_159 3 145 (dk_at dksL_law_25 11 rfl rfl)
theorem dL_law_686 : decode cL_law 686 = .ok (.iconst 0, 1) := dk_3 (dk_at dksL_law_25 14 rfl rfl)
theorem dL_law_687 : decode cL_law 687 = .ok (.ireturn, 1) := dk_172 (dk_at dksL_law_25 15 rfl rfl)
theorem dL_law_688 : decode cL_law 688 = .ok (.aload_n 1, 1) := dk_43 (dk_at dksL_law_25 16 rfl rfl)
theorem dL_law_689 : decode cL_law 689 = .ok (.aload_n 0, 1) := dk_42 (dk_at dksL_law_25 17 rfl rfl)
theorem dL_law_690 : decode cL_law 690 = .ok (.iload 4, 2) := dk_21 4 (dk_at dksL_law_25 18 rfl rfl)
theorem dL_law_692 : decode cL_law 692 = .ok (.iconst 1, 1) := dk_4 (dk_at dksL_law_25 20 rfl rfl)
theorem dL_law_693 : decode cL_law 693 = .ok (.iadd, 1) := dk_96 (dk_at dksL_law_25 21 rfl rfl)
theorem dL_law_694 : decode cL_law 694 = .ok (.iaload, 1) := dk_46 (dk_at dksL_law_25 22 rfl rfl)
theorem dL_law_695 : decode cL_law 695 = .ok (.ifCond .eq 7, 3) := dk_153 0 7 (dk_at dksL_law_26 0 rfl rfl)
theorem dL_law_698 : decode cL_law 698 = .ok (.iconst 1, 1) := dk_4 (dk_at dksL_law_26 3 rfl rfl)
theorem dL_law_699 : decode cL_law 699 = .ok (.goto 4, 3) := dk_167 0 4 (dk_at dksL_law_26 4 rfl rfl)
theorem dL_law_702 : decode cL_law 702 = .ok (.iconst 0, 1) := dk_3 (dk_at dksL_law_26 7 rfl rfl)
theorem dL_law_703 : decode cL_law 703 = .ok (.aload_n 3, 1) := dk_45 (dk_at dksL_law_26 8 rfl rfl)
theorem dL_law_704 : decode cL_law 704 = .ok (.invokestatic 142, 3) := dk_184 0 142 (dk_at dksL_law_26 9 rfl rfl)
theorem dL_law_707 : decode cL_law 707 = .ok (.istore 5, 2) := dk_54 5 (dk_at dksL_law_26 12 rfl rfl)
theorem dL_law_709 : decode cL_law 709 = .ok (.aload_n 2, 1) := dk_44 (dk_at dksL_law_26 14 rfl rfl)
theorem dL_law_710 : decode cL_law 710 = .ok (.aload_n 0, 1) := dk_42 (dk_at dksL_law_26 15 rfl rfl)
theorem dL_law_711 : decode cL_law 711 = .ok (.iload 4, 2) := dk_21 4 (dk_at dksL_law_26 16 rfl rfl)
theorem dL_law_713 : decode cL_law 713 = .ok (.iconst 1, 1) := dk_4 (dk_at dksL_law_26 18 rfl rfl)
theorem dL_law_714 : decode cL_law 714 = .ok (.iadd, 1) := dk_96 (dk_at dksL_law_26 19 rfl rfl)
theorem dL_law_715 : decode cL_law 715 = .ok (.iaload, 1) := dk_46 (dk_at dksL_law_26 20 rfl rfl)
theorem dL_law_716 : decode cL_law 716 = .ok (.ifCond .eq 7, 3) := dk_153 0 7 (dk_at dksL_law_26 21 rfl rfl)
theorem dL_law_719 : decode cL_law 719 = .ok (.iconst 1, 1) := dk_4 (dk_at dksL_law_27 0 rfl rfl)
theorem dL_law_720 : decode cL_law 720 = .ok (.goto 4, 3) := dk_167 0 4 (dk_at dksL_law_27 1 rfl rfl)
theorem dL_law_723 : decode cL_law 723 = .ok (.iconst 0, 1) := dk_3 (dk_at dksL_law_27 4 rfl rfl)
theorem dL_law_724 : decode cL_law 724 = .ok (.invokevirtual 145, 3) := dk_182 0 145 (dk_at dksL_law_27 5 rfl rfl)
theorem dL_law_727 : decode cL_law 727 = .ok (.istore 6, 2) := dk_54 6 (dk_at dksL_law_27 8 rfl rfl)
theorem dL_law_729 : decode cL_law 729 = .ok (.aload_n 2, 1) := dk_44 (dk_at dksL_law_27 10 rfl rfl)
theorem dL_law_730 : decode cL_law 730 = .ok (.invokevirtual 100, 3) := dk_182 0 100 (dk_at dksL_law_27 11 rfl rfl)
theorem dL_law_733 : decode cL_law 733 = .ok (.iload 5, 2) := dk_21 5 (dk_at dksL_law_27 14 rfl rfl)
theorem dL_law_735 : decode cL_law 735 = .ok (.if_icmp .eq 5, 3) := dk_159 0 5 (dk_at dksL_law_27 16 rfl rfl)
theorem dL_law_738 : decode cL_law 738 = .ok (.iconst 0, 1) := dk_3 (dk_at dksL_law_27 19 rfl rfl)
theorem dL_law_739 : decode cL_law 739 = .ok (.ireturn, 1) := dk_172 (dk_at dksL_law_27 20 rfl rfl)
theorem dL_law_740 : decode cL_law 740 = .ok (.iload 5, 2) := dk_21 5 (dk_at dksL_law_27 21 rfl rfl)
theorem dL_law_742 : decode cL_law 742 = .ok (.ifCond .ne 15, 3) := dk_154 0 15 (dk_at dksL_law_28 0 rfl rfl)
theorem dL_law_745 : decode cL_law 745 = .ok (.aload_n 3, 1) := dk_45 (dk_at dksL_law_28 3 rfl rfl)
theorem dL_law_746 : decode cL_law 746 = .ok (.iconst 0, 1) := dk_3 (dk_at dksL_law_28 4 rfl rfl)
theorem dL_law_747 : decode cL_law 747 = .ok (.laload, 1) := dk_47 (dk_at dksL_law_28 5 rfl rfl)
theorem dL_law_748 : decode cL_law 748 = .ok (.iload 6, 2) := dk_21 6 (dk_at dksL_law_28 6 rfl rfl)
theorem dL_law_750 : decode cL_law 750 = .ok (.i2l, 1) := dk_133 (dk_at dksL_law_28 8 rfl rfl)
theorem dL_law_751 : decode cL_law 751 = .ok (.lcmp, 1) := dk_148 (dk_at dksL_law_28 9 rfl rfl)
theorem dL_law_752 : decode cL_law 752 = .ok (.ifCond .eq 5, 3) := dk_153 0 5 (dk_at dksL_law_28 10 rfl rfl)
theorem dL_law_755 : decode cL_law 755 = .ok (.iconst 0, 1) := dk_3 (dk_at dksL_law_28 13 rfl rfl)
theorem dL_law_756 : decode cL_law 756 = .ok (.ireturn, 1) := dk_172 (dk_at dksL_law_28 14 rfl rfl)
theorem dL_law_757 : decode cL_law 757 = .ok (.goto 839, 3) := dk_167 3 71 (dk_at dksL_law_28 15 rfl rfl)
theorem dL_law_760 : decode cL_law 760 = .ok (.aload_n 1, 1) := dk_43 (dk_at dksL_law_28 18 rfl rfl)
theorem dL_law_761 : decode cL_law 761 = .ok (.aload_n 3, 1) := dk_45 (dk_at dksL_law_28 19 rfl rfl)
theorem dL_law_762 : decode cL_law 762 = .ok (.invokestatic 146, 3) := dk_184 0 146 (dk_at dksL_law_28 20 rfl rfl)
theorem dL_law_765 : decode cL_law 765 = .ok (.istore 5, 2) := dk_54 5 (dk_at dksL_law_29 0 rfl rfl)
theorem dL_law_767 : decode cL_law 767 = .ok (.aload_n 2, 1) := dk_44 (dk_at dksL_law_29 2 rfl rfl)
theorem dL_law_768 : decode cL_law 768 = .ok (.invokevirtual 148, 3) := dk_182 0 148 (dk_at dksL_law_29 3 rfl rfl)
theorem dL_law_771 : decode cL_law 771 = .ok (.istore 6, 2) := dk_54 6 (dk_at dksL_law_29 6 rfl rfl)
theorem dL_law_773 : decode cL_law 773 = .ok (.aload_n 2, 1) := dk_44 (dk_at dksL_law_29 8 rfl rfl)
theorem dL_law_774 : decode cL_law 774 = .ok (.invokevirtual 100, 3) := dk_182 0 100 (dk_at dksL_law_29 9 rfl rfl)
theorem dL_law_777 : decode cL_law 777 = .ok (.iload 5, 2) := dk_21 5 (dk_at dksL_law_29 12 rfl rfl)
theorem dL_law_779 : decode cL_law 779 = .ok (.if_icmp .eq 5, 3) := dk_159 0 5 (dk_at dksL_law_29 14 rfl rfl)
theorem dL_law_782 : decode cL_law 782 = .ok (.iconst 0, 1) := dk_3 (dk_at dksL_law_29 17 rfl rfl)
theorem dL_law_783 : decode cL_law 783 = .ok (.ireturn, 1) := dk_172 (dk_at dksL_law_29 18 rfl rfl)
theorem dL_law_784 : decode cL_law 784 = .ok (.iload 5, 2) := dk_21 5 (dk_at dksL_law_29 19 rfl rfl)
theorem dL_law_786 : decode cL_law 786 = .ok (.ifCond .ne 15, 3) := dk_154 0 15 (dk_at dksL_law_29 21 rfl rfl)
theorem dL_law_789 : decode cL_law 789 = .ok (.aload_n 3, 1) := dk_45 (dk_at dksL_law_30 0 rfl rfl)
theorem dL_law_790 : decode cL_law 790 = .ok (.iconst 0, 1) := dk_3 (dk_at dksL_law_30 1 rfl rfl)
theorem dL_law_791 : decode cL_law 791 = .ok (.laload, 1) := dk_47 (dk_at dksL_law_30 2 rfl rfl)
theorem dL_law_792 : decode cL_law 792 = .ok (.iload 6, 2) := dk_21 6 (dk_at dksL_law_30 3 rfl rfl)
theorem dL_law_794 : decode cL_law 794 = .ok (.i2l, 1) := dk_133 (dk_at dksL_law_30 5 rfl rfl)
theorem dL_law_795 : decode cL_law 795 = .ok (.lcmp, 1) := dk_148 (dk_at dksL_law_30 6 rfl rfl)
theorem dL_law_796 : decode cL_law 796 = .ok (.ifCond .eq 5, 3) := dk_153 0 5 (dk_at dksL_law_30 7 rfl rfl)
theorem dL_law_799 : decode cL_law 799 = .ok (.iconst 0, 1) := dk_3 (dk_at dksL_law_30 10 rfl rfl)
theorem dL_law_800 : decode cL_law 800 = .ok (.ireturn, 1) := dk_172 (dk_at dksL_law_30 11 rfl rfl)
theorem dL_law_801 : decode cL_law 801 = .ok (.goto 795, 3) := dk_167 3 27 (dk_at dksL_law_30 12 rfl rfl)
theorem dL_law_804 : decode cL_law 804 = .ok (.aload_n 1, 1) := dk_43 (dk_at dksL_law_30 15 rfl rfl)
theorem dL_law_805 : decode cL_law 805 = .ok (.aload_n 3, 1) := dk_45 (dk_at dksL_law_30 16 rfl rfl)
theorem dL_law_806 : decode cL_law 806 = .ok (.invokestatic 149, 3) := dk_184 0 149 (dk_at dksL_law_30 17 rfl rfl)
theorem dL_law_809 : decode cL_law 809 = .ok (.istore 5, 2) := dk_54 5 (dk_at dksL_law_30 20 rfl rfl)
theorem dL_law_811 : decode cL_law 811 = .ok (.aload_n 2, 1) := dk_44 (dk_at dksL_law_30 22 rfl rfl)
theorem dL_law_812 : decode cL_law 812 = .ok (.invokevirtual 151, 3) := dk_182 0 151 (dk_at dksL_law_31 0 rfl rfl)
theorem dL_law_815 : decode cL_law 815 = .ok (.istore 6, 2) := dk_54 6 (dk_at dksL_law_31 3 rfl rfl)
theorem dL_law_817 : decode cL_law 817 = .ok (.aload_n 2, 1) := dk_44 (dk_at dksL_law_31 5 rfl rfl)
theorem dL_law_818 : decode cL_law 818 = .ok (.invokevirtual 100, 3) := dk_182 0 100 (dk_at dksL_law_31 6 rfl rfl)
theorem dL_law_821 : decode cL_law 821 = .ok (.iload 5, 2) := dk_21 5 (dk_at dksL_law_31 9 rfl rfl)
theorem dL_law_823 : decode cL_law 823 = .ok (.if_icmp .eq 5, 3) := dk_159 0 5 (dk_at dksL_law_31 11 rfl rfl)
theorem dL_law_826 : decode cL_law 826 = .ok (.iconst 0, 1) := dk_3 (dk_at dksL_law_31 14 rfl rfl)
theorem dL_law_827 : decode cL_law 827 = .ok (.ireturn, 1) := dk_172 (dk_at dksL_law_31 15 rfl rfl)
theorem dL_law_828 : decode cL_law 828 = .ok (.iload 5, 2) := dk_21 5 (dk_at dksL_law_31 16 rfl rfl)
theorem dL_law_830 : decode cL_law 830 = .ok (.ifCond .ne 15, 3) := dk_154 0 15 (dk_at dksL_law_31 18 rfl rfl)
theorem dL_law_833 : decode cL_law 833 = .ok (.aload_n 3, 1) := dk_45 (dk_at dksL_law_31 21 rfl rfl)
theorem dL_law_834 : decode cL_law 834 = .ok (.iconst 0, 1) := dk_3 (dk_at dksL_law_31 22 rfl rfl)
theorem dL_law_835 : decode cL_law 835 = .ok (.laload, 1) := dk_47 (dk_at dksL_law_31 23 rfl rfl)
theorem dL_law_836 : decode cL_law 836 = .ok (.iload 6, 2) := dk_21 6 (dk_at dksL_law_32 0 rfl rfl)
theorem dL_law_838 : decode cL_law 838 = .ok (.i2l, 1) := dk_133 (dk_at dksL_law_32 2 rfl rfl)
theorem dL_law_839 : decode cL_law 839 = .ok (.lcmp, 1) := dk_148 (dk_at dksL_law_32 3 rfl rfl)
theorem dL_law_840 : decode cL_law 840 = .ok (.ifCond .eq 5, 3) := dk_153 0 5 (dk_at dksL_law_32 4 rfl rfl)
theorem dL_law_843 : decode cL_law 843 = .ok (.iconst 0, 1) := dk_3 (dk_at dksL_law_32 7 rfl rfl)
theorem dL_law_844 : decode cL_law 844 = .ok (.ireturn, 1) := dk_172 (dk_at dksL_law_32 8 rfl rfl)
theorem dL_law_845 : decode cL_law 845 = .ok (.goto 751, 3) := dk_167 2 239 (dk_at dksL_law_32 9 rfl rfl)
theorem dL_law_848 : decode cL_law 848 = .ok (.aload_n 1, 1) := dk_43 (dk_at dksL_law_32 12 rfl rfl)
theorem dL_law_849 : decode cL_law 849 = .ok (.aload_n 0, 1) := dk_42 (dk_at dksL_law_32 13 rfl rfl)
theorem dL_law_850 : decode cL_law 850 = .ok (.iload 4, 2) := dk_21 4 (dk_at dksL_law_32 14 rfl rfl)
theorem dL_law_852 : decode cL_law 852 = .ok (.iconst 1, 1) := dk_4 (dk_at dksL_law_32 16 rfl rfl)
theorem dL_law_853 : decode cL_law 853 = .ok (.iadd, 1) := dk_96 (dk_at dksL_law_32 17 rfl rfl)
theorem dL_law_854 : decode cL_law 854 = .ok (.iaload, 1) := dk_46 (dk_at dksL_law_32 18 rfl rfl)
theorem dL_law_855 : decode cL_law 855 = .ok (.aload_n 3, 1) := dk_45 (dk_at dksL_law_32 19 rfl rfl)
theorem dL_law_856 : decode cL_law 856 = .ok (.invokestatic 152, 3) := dk_184 0 152 (dk_at dksL_law_32 20 rfl rfl)
theorem dL_law_859 : decode cL_law 859 = .ok (.istore 5, 2) := dk_54 5 (dk_at dksL_law_33 0 rfl rfl)
theorem dL_law_861 : decode cL_law 861 = .ok (.aload_n 2, 1) := dk_44 (dk_at dksL_law_33 2 rfl rfl)
theorem dL_law_862 : decode cL_law 862 = .ok (.aload_n 0, 1) := dk_42 (dk_at dksL_law_33 3 rfl rfl)
theorem dL_law_863 : decode cL_law 863 = .ok (.iload 4, 2) := dk_21 4 (dk_at dksL_law_33 4 rfl rfl)
theorem dL_law_865 : decode cL_law 865 = .ok (.iconst 1, 1) := dk_4 (dk_at dksL_law_33 6 rfl rfl)
theorem dL_law_866 : decode cL_law 866 = .ok (.iadd, 1) := dk_96 (dk_at dksL_law_33 7 rfl rfl)
theorem dL_law_867 : decode cL_law 867 = .ok (.iaload, 1) := dk_46 (dk_at dksL_law_33 8 rfl rfl)
theorem dL_law_868 : decode cL_law 868 = .ok (.invokevirtual 154, 3) := dk_182 0 154 (dk_at dksL_law_33 9 rfl rfl)
theorem dL_law_871 : decode cL_law 871 = .ok (.istore 6, 2) := dk_54 6 (dk_at dksL_law_33 12 rfl rfl)
theorem dL_law_873 : decode cL_law 873 = .ok (.aload_n 2, 1) := dk_44 (dk_at dksL_law_33 14 rfl rfl)
theorem dL_law_874 : decode cL_law 874 = .ok (.invokevirtual 100, 3) := dk_182 0 100 (dk_at dksL_law_33 15 rfl rfl)
theorem dL_law_877 : decode cL_law 877 = .ok (.iload 5, 2) := dk_21 5 (dk_at dksL_law_33 18 rfl rfl)
theorem dL_law_879 : decode cL_law 879 = .ok (.if_icmp .eq 5, 3) := dk_159 0 5 (dk_at dksL_law_33 20 rfl rfl)
theorem dL_law_882 : decode cL_law 882 = .ok (.iconst 0, 1) := dk_3 (dk_at dksL_law_33 23 rfl rfl)
theorem dL_law_883 : decode cL_law 883 = .ok (.ireturn, 1) := dk_172 (dk_at dksL_law_34 0 rfl rfl)
theorem dL_law_884 : decode cL_law 884 = .ok (.iload 5, 2) := dk_21 5 (dk_at dksL_law_34 1 rfl rfl)
theorem dL_law_886 : decode cL_law 886 = .ok (.ifCond .ne 15, 3) := dk_154 0 15 (dk_at dksL_law_34 3 rfl rfl)
theorem dL_law_889 : decode cL_law 889 = .ok (.aload_n 3, 1) := dk_45 (dk_at dksL_law_34 6 rfl rfl)
theorem dL_law_890 : decode cL_law 890 = .ok (.iconst 0, 1) := dk_3 (dk_at dksL_law_34 7 rfl rfl)
theorem dL_law_891 : decode cL_law 891 = .ok (.laload, 1) := dk_47 (dk_at dksL_law_34 8 rfl rfl)
theorem dL_law_892 : decode cL_law 892 = .ok (.iload 6, 2) := dk_21 6 (dk_at dksL_law_34 9 rfl rfl)
theorem dL_law_894 : decode cL_law 894 = .ok (.i2l, 1) := dk_133 (dk_at dksL_law_34 11 rfl rfl)
theorem dL_law_895 : decode cL_law 895 = .ok (.lcmp, 1) := dk_148 (dk_at dksL_law_34 12 rfl rfl)
theorem dL_law_896 : decode cL_law 896 = .ok (.ifCond .eq 5, 3) := dk_153 0 5 (dk_at dksL_law_34 13 rfl rfl)
theorem dL_law_899 : decode cL_law 899 = .ok (.iconst 0, 1) := dk_3 (dk_at dksL_law_34 16 rfl rfl)
theorem dL_law_900 : decode cL_law 900 = .ok (.ireturn, 1) := dk_172 (dk_at dksL_law_34 17 rfl rfl)
theorem dL_law_901 : decode cL_law 901 = .ok (.goto 695, 3) := dk_167 2 183 (dk_at dksL_law_34 18 rfl rfl)
theorem dL_law_904 : decode cL_law 904 = .ok (.aload_n 1, 1) := dk_43 (dk_at dksL_law_34 21 rfl rfl)
theorem dL_law_905 : decode cL_law 905 = .ok (.aload_n 0, 1) := dk_42 (dk_at dksL_law_34 22 rfl rfl)
theorem dL_law_906 : decode cL_law 906 = .ok (.iload 4, 2) := dk_21 4 (dk_at dksL_law_35 0 rfl rfl)
theorem dL_law_908 : decode cL_law 908 = .ok (.iconst 1, 1) := dk_4 (dk_at dksL_law_35 2 rfl rfl)
theorem dL_law_909 : decode cL_law 909 = .ok (.iadd, 1) := dk_96 (dk_at dksL_law_35 3 rfl rfl)
theorem dL_law_910 : decode cL_law 910 = .ok (.iaload, 1) := dk_46 (dk_at dksL_law_35 4 rfl rfl)
theorem dL_law_911 : decode cL_law 911 = .ok (.aload_n 3, 1) := dk_45 (dk_at dksL_law_35 5 rfl rfl)
theorem dL_law_912 : decode cL_law 912 = .ok (.invokestatic 155, 3) := dk_184 0 155 (dk_at dksL_law_35 6 rfl rfl)
theorem dL_law_915 : decode cL_law 915 = .ok (.istore 5, 2) := dk_54 5 (dk_at dksL_law_35 9 rfl rfl)
theorem dL_law_917 : decode cL_law 917 = .ok (.aload_n 2, 1) := dk_44 (dk_at dksL_law_35 11 rfl rfl)
theorem dL_law_918 : decode cL_law 918 = .ok (.aload_n 0, 1) := dk_42 (dk_at dksL_law_35 12 rfl rfl)
theorem dL_law_919 : decode cL_law 919 = .ok (.iload 4, 2) := dk_21 4 (dk_at dksL_law_35 13 rfl rfl)
theorem dL_law_921 : decode cL_law 921 = .ok (.iconst 1, 1) := dk_4 (dk_at dksL_law_35 15 rfl rfl)
theorem dL_law_922 : decode cL_law 922 = .ok (.iadd, 1) := dk_96 (dk_at dksL_law_35 16 rfl rfl)
theorem dL_law_923 : decode cL_law 923 = .ok (.iaload, 1) := dk_46 (dk_at dksL_law_35 17 rfl rfl)
theorem dL_law_924 : decode cL_law 924 = .ok (.invokevirtual 157, 3) := dk_182 0 157 (dk_at dksL_law_35 18 rfl rfl)
theorem dL_law_927 : decode cL_law 927 = .ok (.istore 6, 2) := dk_54 6 (dk_at dksL_law_35 21 rfl rfl)
theorem dL_law_929 : decode cL_law 929 = .ok (.aload_n 2, 1) := dk_44 (dk_at dksL_law_35 23 rfl rfl)
theorem dL_law_930 : decode cL_law 930 = .ok (.invokevirtual 100, 3) := dk_182 0 100 (dk_at dksL_law_36 0 rfl rfl)
theorem dL_law_933 : decode cL_law 933 = .ok (.iload 5, 2) := dk_21 5 (dk_at dksL_law_36 3 rfl rfl)
theorem dL_law_935 : decode cL_law 935 = .ok (.if_icmp .eq 5, 3) := dk_159 0 5 (dk_at dksL_law_36 5 rfl rfl)
theorem dL_law_938 : decode cL_law 938 = .ok (.iconst 0, 1) := dk_3 (dk_at dksL_law_36 8 rfl rfl)
theorem dL_law_939 : decode cL_law 939 = .ok (.ireturn, 1) := dk_172 (dk_at dksL_law_36 9 rfl rfl)
theorem dL_law_940 : decode cL_law 940 = .ok (.iload 5, 2) := dk_21 5 (dk_at dksL_law_36 10 rfl rfl)
theorem dL_law_942 : decode cL_law 942 = .ok (.ifCond .ne 15, 3) := dk_154 0 15 (dk_at dksL_law_36 12 rfl rfl)
theorem dL_law_945 : decode cL_law 945 = .ok (.aload_n 3, 1) := dk_45 (dk_at dksL_law_36 15 rfl rfl)
theorem dL_law_946 : decode cL_law 946 = .ok (.iconst 0, 1) := dk_3 (dk_at dksL_law_36 16 rfl rfl)
theorem dL_law_947 : decode cL_law 947 = .ok (.laload, 1) := dk_47 (dk_at dksL_law_36 17 rfl rfl)
theorem dL_law_948 : decode cL_law 948 = .ok (.iload 6, 2) := dk_21 6 (dk_at dksL_law_36 18 rfl rfl)
theorem dL_law_950 : decode cL_law 950 = .ok (.i2l, 1) := dk_133 (dk_at dksL_law_36 20 rfl rfl)
theorem dL_law_951 : decode cL_law 951 = .ok (.lcmp, 1) := dk_148 (dk_at dksL_law_36 21 rfl rfl)
theorem dL_law_952 : decode cL_law 952 = .ok (.ifCond .eq 5, 3) := dk_153 0 5 (dk_at dksL_law_37 0 rfl rfl)
theorem dL_law_955 : decode cL_law 955 = .ok (.iconst 0, 1) := dk_3 (dk_at dksL_law_37 3 rfl rfl)
theorem dL_law_956 : decode cL_law 956 = .ok (.ireturn, 1) := dk_172 (dk_at dksL_law_37 4 rfl rfl)
theorem dL_law_957 : decode cL_law 957 = .ok (.goto 639, 3) := dk_167 2 127 (dk_at dksL_law_37 5 rfl rfl)
theorem dL_law_960 : decode cL_law 960 = .ok (.aload_n 1, 1) := dk_43 (dk_at dksL_law_37 8 rfl rfl)
theorem dL_law_961 : decode cL_law 961 = .ok (.aload_n 3, 1) := dk_45 (dk_at dksL_law_37 9 rfl rfl)
theorem dL_law_962 : decode cL_law 962 = .ok (.invokestatic 158, 3) := dk_184 0 158 (dk_at dksL_law_37 10 rfl rfl)
theorem dL_law_965 : decode cL_law 965 = .ok (.istore 5, 2) := dk_54 5 (dk_at dksL_law_37 13 rfl rfl)
theorem dL_law_967 : decode cL_law 967 = .ok (.aload_n 2, 1) := dk_44 (dk_at dksL_law_37 15 rfl rfl)
theorem dL_law_968 : decode cL_law 968 = .ok (.invokevirtual 160, 3) := dk_182 0 160 (dk_at dksL_law_37 16 rfl rfl)
theorem dL_law_971 : decode cL_law 971 = .ok (.istore 6, 2) := dk_54 6 (dk_at dksL_law_37 19 rfl rfl)
theorem dL_law_973 : decode cL_law 973 = .ok (.aload_n 2, 1) := dk_44 (dk_at dksL_law_37 21 rfl rfl)
theorem dL_law_974 : decode cL_law 974 = .ok (.invokevirtual 100, 3) := dk_182 0 100 (dk_at dksL_law_38 0 rfl rfl)
theorem dL_law_977 : decode cL_law 977 = .ok (.iload 5, 2) := dk_21 5 (dk_at dksL_law_38 3 rfl rfl)
theorem dL_law_979 : decode cL_law 979 = .ok (.if_icmp .eq 5, 3) := dk_159 0 5 (dk_at dksL_law_38 5 rfl rfl)
theorem dL_law_982 : decode cL_law 982 = .ok (.iconst 0, 1) := dk_3 (dk_at dksL_law_38 8 rfl rfl)
theorem dL_law_983 : decode cL_law 983 = .ok (.ireturn, 1) := dk_172 (dk_at dksL_law_38 9 rfl rfl)
theorem dL_law_984 : decode cL_law 984 = .ok (.iload 5, 2) := dk_21 5 (dk_at dksL_law_38 10 rfl rfl)
theorem dL_law_986 : decode cL_law 986 = .ok (.ifCond .ne 15, 3) := dk_154 0 15 (dk_at dksL_law_38 12 rfl rfl)
theorem dL_law_989 : decode cL_law 989 = .ok (.aload_n 3, 1) := dk_45 (dk_at dksL_law_38 15 rfl rfl)
theorem dL_law_990 : decode cL_law 990 = .ok (.iconst 0, 1) := dk_3 (dk_at dksL_law_38 16 rfl rfl)
theorem dL_law_991 : decode cL_law 991 = .ok (.laload, 1) := dk_47 (dk_at dksL_law_38 17 rfl rfl)
theorem dL_law_992 : decode cL_law 992 = .ok (.iload 6, 2) := dk_21 6 (dk_at dksL_law_38 18 rfl rfl)
theorem dL_law_994 : decode cL_law 994 = .ok (.i2l, 1) := dk_133 (dk_at dksL_law_38 20 rfl rfl)
theorem dL_law_995 : decode cL_law 995 = .ok (.lcmp, 1) := dk_148 (dk_at dksL_law_38 21 rfl rfl)
theorem dL_law_996 : decode cL_law 996 = .ok (.ifCond .eq 5, 3) := dk_153 0 5 (dk_at dksL_law_39 0 rfl rfl)
theorem dL_law_999 : decode cL_law 999 = .ok (.iconst 0, 1) := dk_3 (dk_at dksL_law_39 3 rfl rfl)
theorem dL_law_1000 : decode cL_law 1000 = .ok (.ireturn, 1) := dk_172 (dk_at dksL_law_39 4 rfl rfl)
theorem dL_law_1001 : decode cL_law 1001 = .ok (.goto 595, 3) := dk_167 2 83 (dk_at dksL_law_39 5 rfl rfl)
theorem dL_law_1004 : decode cL_law 1004 = .ok (.aload_n 1, 1) := dk_43 (dk_at dksL_law_39 8 rfl rfl)
theorem dL_law_1005 : decode cL_law 1005 = .ok (.aload_n 3, 1) := dk_45 (dk_at dksL_law_39 9 rfl rfl)
theorem dL_law_1006 : decode cL_law 1006 = .ok (.invokestatic 161, 3) := dk_184 0 161 (dk_at dksL_law_39 10 rfl rfl)
theorem dL_law_1009 : decode cL_law 1009 = .ok (.istore 5, 2) := dk_54 5 (dk_at dksL_law_39 13 rfl rfl)
theorem dL_law_1011 : decode cL_law 1011 = .ok (.aload_n 2, 1) := dk_44 (dk_at dksL_law_39 15 rfl rfl)
theorem dL_law_1012 : decode cL_law 1012 = .ok (.invokevirtual 163, 3) := dk_182 0 163 (dk_at dksL_law_39 16 rfl rfl)
theorem dL_law_1015 : decode cL_law 1015 = .ok (.istore 6, 2) := dk_54 6 (dk_at dksL_law_39 19 rfl rfl)
theorem dL_law_1017 : decode cL_law 1017 = .ok (.aload_n 2, 1) := dk_44 (dk_at dksL_law_39 21 rfl rfl)
theorem dL_law_1018 : decode cL_law 1018 = .ok (.invokevirtual 100, 3) := dk_182 0 100 (dk_at dksL_law_40 0 rfl rfl)
theorem dL_law_1021 : decode cL_law 1021 = .ok (.iload 5, 2) := dk_21 5 (dk_at dksL_law_40 3 rfl rfl)
theorem dL_law_1023 : decode cL_law 1023 = .ok (.if_icmp .eq 5, 3) := dk_159 0 5 (dk_at dksL_law_40 5 rfl rfl)
theorem dL_law_1026 : decode cL_law 1026 = .ok (.iconst 0, 1) := dk_3 (dk_at dksL_law_40 8 rfl rfl)
theorem dL_law_1027 : decode cL_law 1027 = .ok (.ireturn, 1) := dk_172 (dk_at dksL_law_40 9 rfl rfl)
theorem dL_law_1028 : decode cL_law 1028 = .ok (.iload 5, 2) := dk_21 5 (dk_at dksL_law_40 10 rfl rfl)
theorem dL_law_1030 : decode cL_law 1030 = .ok (.ifCond .ne 15, 3) := dk_154 0 15 (dk_at dksL_law_40 12 rfl rfl)
theorem dL_law_1033 : decode cL_law 1033 = .ok (.aload_n 3, 1) := dk_45 (dk_at dksL_law_40 15 rfl rfl)
theorem dL_law_1034 : decode cL_law 1034 = .ok (.iconst 0, 1) := dk_3 (dk_at dksL_law_40 16 rfl rfl)
theorem dL_law_1035 : decode cL_law 1035 = .ok (.laload, 1) := dk_47 (dk_at dksL_law_40 17 rfl rfl)
theorem dL_law_1036 : decode cL_law 1036 = .ok (.iload 6, 2) := dk_21 6 (dk_at dksL_law_40 18 rfl rfl)
theorem dL_law_1038 : decode cL_law 1038 = .ok (.i2l, 1) := dk_133 (dk_at dksL_law_40 20 rfl rfl)
theorem dL_law_1039 : decode cL_law 1039 = .ok (.lcmp, 1) := dk_148 (dk_at dksL_law_40 21 rfl rfl)
theorem dL_law_1040 : decode cL_law 1040 = .ok (.ifCond .eq 5, 3) := dk_153 0 5 (dk_at dksL_law_41 0 rfl rfl)
theorem dL_law_1043 : decode cL_law 1043 = .ok (.iconst 0, 1) := dk_3 (dk_at dksL_law_41 3 rfl rfl)
theorem dL_law_1044 : decode cL_law 1044 = .ok (.ireturn, 1) := dk_172 (dk_at dksL_law_41 4 rfl rfl)
theorem dL_law_1045 : decode cL_law 1045 = .ok (.goto 551, 3) := dk_167 2 39 (dk_at dksL_law_41 5 rfl rfl)
theorem dL_law_1048 : decode cL_law 1048 = .ok (.aload_n 1, 1) := dk_43 (dk_at dksL_law_41 8 rfl rfl)
theorem dL_law_1049 : decode cL_law 1049 = .ok (.aload_n 0, 1) := dk_42 (dk_at dksL_law_41 9 rfl rfl)
theorem dL_law_1050 : decode cL_law 1050 = .ok (.iload 4, 2) := dk_21 4 (dk_at dksL_law_41 10 rfl rfl)
theorem dL_law_1052 : decode cL_law 1052 = .ok (.iconst 1, 1) := dk_4 (dk_at dksL_law_41 12 rfl rfl)
theorem dL_law_1053 : decode cL_law 1053 = .ok (.iadd, 1) := dk_96 (dk_at dksL_law_41 13 rfl rfl)
theorem dL_law_1054 : decode cL_law 1054 = .ok (.iaload, 1) := dk_46 (dk_at dksL_law_41 14 rfl rfl)
theorem dL_law_1055 : decode cL_law 1055 = .ok (.aload_n 0, 1) := dk_42 (dk_at dksL_law_41 15 rfl rfl)
theorem dL_law_1056 : decode cL_law 1056 = .ok (.iload 4, 2) := dk_21 4 (dk_at dksL_law_41 16 rfl rfl)
theorem dL_law_1058 : decode cL_law 1058 = .ok (.iconst 2, 1) := dk_5 (dk_at dksL_law_41 18 rfl rfl)
theorem dL_law_1059 : decode cL_law 1059 = .ok (.iadd, 1) := dk_96 (dk_at dksL_law_41 19 rfl rfl)
theorem dL_law_1060 : decode cL_law 1060 = .ok (.iaload, 1) := dk_46 (dk_at dksL_law_41 20 rfl rfl)
theorem dL_law_1061 : decode cL_law 1061 = .ok (.aload_n 3, 1) := dk_45 (dk_at dksL_law_41 21 rfl rfl)
theorem dL_law_1062 : decode cL_law 1062 = .ok (.invokestatic 164, 3) := dk_184 0 164 (dk_at dksL_law_42 0 rfl rfl)
theorem dL_law_1065 : decode cL_law 1065 = .ok (.istore 5, 2) := dk_54 5 (dk_at dksL_law_42 3 rfl rfl)
theorem dL_law_1067 : decode cL_law 1067 = .ok (.aload_n 2, 1) := dk_44 (dk_at dksL_law_42 5 rfl rfl)
theorem dL_law_1068 : decode cL_law 1068 = .ok (.aload_n 0, 1) := dk_42 (dk_at dksL_law_42 6 rfl rfl)
theorem dL_law_1069 : decode cL_law 1069 = .ok (.iload 4, 2) := dk_21 4 (dk_at dksL_law_42 7 rfl rfl)
theorem dL_law_1071 : decode cL_law 1071 = .ok (.iconst 1, 1) := dk_4 (dk_at dksL_law_42 9 rfl rfl)
theorem dL_law_1072 : decode cL_law 1072 = .ok (.iadd, 1) := dk_96 (dk_at dksL_law_42 10 rfl rfl)
theorem dL_law_1073 : decode cL_law 1073 = .ok (.iaload, 1) := dk_46 (dk_at dksL_law_42 11 rfl rfl)
theorem dL_law_1074 : decode cL_law 1074 = .ok (.aload_n 0, 1) := dk_42 (dk_at dksL_law_42 12 rfl rfl)
theorem dL_law_1075 : decode cL_law 1075 = .ok (.iload 4, 2) := dk_21 4 (dk_at dksL_law_42 13 rfl rfl)
theorem dL_law_1077 : decode cL_law 1077 = .ok (.iconst 2, 1) := dk_5 (dk_at dksL_law_42 15 rfl rfl)
theorem dL_law_1078 : decode cL_law 1078 = .ok (.iadd, 1) := dk_96 (dk_at dksL_law_42 16 rfl rfl)
theorem dL_law_1079 : decode cL_law 1079 = .ok (.iaload, 1) := dk_46 (dk_at dksL_law_42 17 rfl rfl)
theorem dL_law_1080 : decode cL_law 1080 = .ok (.invokevirtual 166, 3) := dk_182 0 166 (dk_at dksL_law_42 18 rfl rfl)
theorem dL_law_1083 : decode cL_law 1083 = .ok (.istore 6, 2) := dk_54 6 (dk_at dksL_law_42 21 rfl rfl)
theorem dL_law_1085 : decode cL_law 1085 = .ok (.aload_n 2, 1) := dk_44 (dk_at dksL_law_42 23 rfl rfl)
theorem dL_law_1086 : decode cL_law 1086 = .ok (.invokevirtual 100, 3) := dk_182 0 100 (dk_at dksL_law_43 0 rfl rfl)
theorem dL_law_1089 : decode cL_law 1089 = .ok (.iload 5, 2) := dk_21 5 (dk_at dksL_law_43 3 rfl rfl)
theorem dL_law_1091 : decode cL_law 1091 = .ok (.if_icmp .eq 5, 3) := dk_159 0 5 (dk_at dksL_law_43 5 rfl rfl)
theorem dL_law_1094 : decode cL_law 1094 = .ok (.iconst 0, 1) := dk_3 (dk_at dksL_law_43 8 rfl rfl)
theorem dL_law_1095 : decode cL_law 1095 = .ok (.ireturn, 1) := dk_172 (dk_at dksL_law_43 9 rfl rfl)
theorem dL_law_1096 : decode cL_law 1096 = .ok (.iload 5, 2) := dk_21 5 (dk_at dksL_law_43 10 rfl rfl)
theorem dL_law_1098 : decode cL_law 1098 = .ok (.ifCond .ne 15, 3) := dk_154 0 15 (dk_at dksL_law_43 12 rfl rfl)
theorem dL_law_1101 : decode cL_law 1101 = .ok (.aload_n 3, 1) := dk_45 (dk_at dksL_law_43 15 rfl rfl)
theorem dL_law_1102 : decode cL_law 1102 = .ok (.iconst 0, 1) := dk_3 (dk_at dksL_law_43 16 rfl rfl)
theorem dL_law_1103 : decode cL_law 1103 = .ok (.laload, 1) := dk_47 (dk_at dksL_law_43 17 rfl rfl)
theorem dL_law_1104 : decode cL_law 1104 = .ok (.iload 6, 2) := dk_21 6 (dk_at dksL_law_43 18 rfl rfl)
theorem dL_law_1106 : decode cL_law 1106 = .ok (.i2l, 1) := dk_133 (dk_at dksL_law_43 20 rfl rfl)
theorem dL_law_1107 : decode cL_law 1107 = .ok (.lcmp, 1) := dk_148 (dk_at dksL_law_43 21 rfl rfl)
theorem dL_law_1108 : decode cL_law 1108 = .ok (.ifCond .eq 5, 3) := dk_153 0 5 (dk_at dksL_law_44 0 rfl rfl)
theorem dL_law_1111 : decode cL_law 1111 = .ok (.iconst 0, 1) := dk_3 (dk_at dksL_law_44 3 rfl rfl)
theorem dL_law_1112 : decode cL_law 1112 = .ok (.ireturn, 1) := dk_172 (dk_at dksL_law_44 4 rfl rfl)
theorem dL_law_1113 : decode cL_law 1113 = .ok (.goto 483, 3) := dk_167 1 227 (dk_at dksL_law_44 5 rfl rfl)
theorem dL_law_1116 : decode cL_law 1116 = .ok (.aload_n 1, 1) := dk_43 (dk_at dksL_law_44 8 rfl rfl)
theorem dL_law_1117 : decode cL_law 1117 = .ok (.aload_n 3, 1) := dk_45 (dk_at dksL_law_44 9 rfl rfl)
theorem dL_law_1118 : decode cL_law 1118 = .ok (.invokestatic 167, 3) := dk_184 0 167 (dk_at dksL_law_44 10 rfl rfl)
theorem dL_law_1121 : decode cL_law 1121 = .ok (.istore 5, 2) := dk_54 5 (dk_at dksL_law_44 13 rfl rfl)
theorem dL_law_1123 : decode cL_law 1123 = .ok (.aload_n 2, 1) := dk_44 (dk_at dksL_law_44 15 rfl rfl)
theorem dL_law_1124 : decode cL_law 1124 = .ok (.invokevirtual 169, 3) := dk_182 0 169 (dk_at dksL_law_44 16 rfl rfl)
theorem dL_law_1127 : decode cL_law 1127 = .ok (.istore 6, 2) := dk_54 6 (dk_at dksL_law_44 19 rfl rfl)
theorem dL_law_1129 : decode cL_law 1129 = .ok (.aload_n 2, 1) := dk_44 (dk_at dksL_law_44 21 rfl rfl)
theorem dL_law_1130 : decode cL_law 1130 = .ok (.invokevirtual 100, 3) := dk_182 0 100 (dk_at dksL_law_45 0 rfl rfl)
theorem dL_law_1133 : decode cL_law 1133 = .ok (.iload 5, 2) := dk_21 5 (dk_at dksL_law_45 3 rfl rfl)
theorem dL_law_1135 : decode cL_law 1135 = .ok (.if_icmp .eq 5, 3) := dk_159 0 5 (dk_at dksL_law_45 5 rfl rfl)
theorem dL_law_1138 : decode cL_law 1138 = .ok (.iconst 0, 1) := dk_3 (dk_at dksL_law_45 8 rfl rfl)
theorem dL_law_1139 : decode cL_law 1139 = .ok (.ireturn, 1) := dk_172 (dk_at dksL_law_45 9 rfl rfl)
theorem dL_law_1140 : decode cL_law 1140 = .ok (.iload 5, 2) := dk_21 5 (dk_at dksL_law_45 10 rfl rfl)
theorem dL_law_1142 : decode cL_law 1142 = .ok (.ifCond .ne 15, 3) := dk_154 0 15 (dk_at dksL_law_45 12 rfl rfl)
theorem dL_law_1145 : decode cL_law 1145 = .ok (.aload_n 3, 1) := dk_45 (dk_at dksL_law_45 15 rfl rfl)
theorem dL_law_1146 : decode cL_law 1146 = .ok (.iconst 0, 1) := dk_3 (dk_at dksL_law_45 16 rfl rfl)
theorem dL_law_1147 : decode cL_law 1147 = .ok (.laload, 1) := dk_47 (dk_at dksL_law_45 17 rfl rfl)
theorem dL_law_1148 : decode cL_law 1148 = .ok (.iload 6, 2) := dk_21 6 (dk_at dksL_law_45 18 rfl rfl)
theorem dL_law_1150 : decode cL_law 1150 = .ok (.i2l, 1) := dk_133 (dk_at dksL_law_45 20 rfl rfl)
theorem dL_law_1151 : decode cL_law 1151 = .ok (.lcmp, 1) := dk_148 (dk_at dksL_law_45 21 rfl rfl)
theorem dL_law_1152 : decode cL_law 1152 = .ok (.ifCond .eq 5, 3) := dk_153 0 5 (dk_at dksL_law_46 0 rfl rfl)
theorem dL_law_1155 : decode cL_law 1155 = .ok (.iconst 0, 1) := dk_3 (dk_at dksL_law_46 3 rfl rfl)
theorem dL_law_1156 : decode cL_law 1156 = .ok (.ireturn, 1) := dk_172 (dk_at dksL_law_46 4 rfl rfl)
theorem dL_law_1157 : decode cL_law 1157 = .ok (.goto 439, 3) := dk_167 1 183 (dk_at dksL_law_46 5 rfl rfl)
theorem dL_law_1160 : decode cL_law 1160 = .ok (.aload_n 1, 1) := dk_43 (dk_at dksL_law_46 8 rfl rfl)
theorem dL_law_1161 : decode cL_law 1161 = .ok (.aload_n 0, 1) := dk_42 (dk_at dksL_law_46 9 rfl rfl)
theorem dL_law_1162 : decode cL_law 1162 = .ok (.iload 4, 2) := dk_21 4 (dk_at dksL_law_46 10 rfl rfl)
theorem dL_law_1164 : decode cL_law 1164 = .ok (.iconst 1, 1) := dk_4 (dk_at dksL_law_46 12 rfl rfl)
theorem dL_law_1165 : decode cL_law 1165 = .ok (.iadd, 1) := dk_96 (dk_at dksL_law_46 13 rfl rfl)
theorem dL_law_1166 : decode cL_law 1166 = .ok (.iaload, 1) := dk_46 (dk_at dksL_law_46 14 rfl rfl)
theorem dL_law_1167 : decode cL_law 1167 = .ok (.aload_n 3, 1) := dk_45 (dk_at dksL_law_46 15 rfl rfl)
theorem dL_law_1168 : decode cL_law 1168 = .ok (.invokestatic 170, 3) := dk_184 0 170 (dk_at dksL_law_46 16 rfl rfl)
theorem dL_law_1171 : decode cL_law 1171 = .ok (.istore 5, 2) := dk_54 5 (dk_at dksL_law_46 19 rfl rfl)
theorem dL_law_1173 : decode cL_law 1173 = .ok (.aload_n 2, 1) := dk_44 (dk_at dksL_law_46 21 rfl rfl)
theorem dL_law_1174 : decode cL_law 1174 = .ok (.aload_n 0, 1) := dk_42 (dk_at dksL_law_46 22 rfl rfl)
theorem dL_law_1175 : decode cL_law 1175 = .ok (.iload 4, 2) := dk_21 4 (dk_at dksL_law_47 0 rfl rfl)
theorem dL_law_1177 : decode cL_law 1177 = .ok (.iconst 1, 1) := dk_4 (dk_at dksL_law_47 2 rfl rfl)
theorem dL_law_1178 : decode cL_law 1178 = .ok (.iadd, 1) := dk_96 (dk_at dksL_law_47 3 rfl rfl)
theorem dL_law_1179 : decode cL_law 1179 = .ok (.iaload, 1) := dk_46 (dk_at dksL_law_47 4 rfl rfl)
theorem dL_law_1180 : decode cL_law 1180 = .ok (.invokevirtual 172, 3) := dk_182 0 172 (dk_at dksL_law_47 5 rfl rfl)
theorem dL_law_1183 : decode cL_law 1183 = .ok (.istore 6, 2) := dk_54 6 (dk_at dksL_law_47 8 rfl rfl)
theorem dL_law_1185 : decode cL_law 1185 = .ok (.aload_n 2, 1) := dk_44 (dk_at dksL_law_47 10 rfl rfl)
theorem dL_law_1186 : decode cL_law 1186 = .ok (.invokevirtual 100, 3) := dk_182 0 100 (dk_at dksL_law_47 11 rfl rfl)
theorem dL_law_1189 : decode cL_law 1189 = .ok (.iload 5, 2) := dk_21 5 (dk_at dksL_law_47 14 rfl rfl)
theorem dL_law_1191 : decode cL_law 1191 = .ok (.if_icmp .eq 5, 3) := dk_159 0 5 (dk_at dksL_law_47 16 rfl rfl)
theorem dL_law_1194 : decode cL_law 1194 = .ok (.iconst 0, 1) := dk_3 (dk_at dksL_law_47 19 rfl rfl)
theorem dL_law_1195 : decode cL_law 1195 = .ok (.ireturn, 1) := dk_172 (dk_at dksL_law_47 20 rfl rfl)
theorem dL_law_1196 : decode cL_law 1196 = .ok (.iload 5, 2) := dk_21 5 (dk_at dksL_law_47 21 rfl rfl)
theorem dL_law_1198 : decode cL_law 1198 = .ok (.ifCond .ne 15, 3) := dk_154 0 15 (dk_at dksL_law_48 0 rfl rfl)
theorem dL_law_1201 : decode cL_law 1201 = .ok (.aload_n 3, 1) := dk_45 (dk_at dksL_law_48 3 rfl rfl)
theorem dL_law_1202 : decode cL_law 1202 = .ok (.iconst 0, 1) := dk_3 (dk_at dksL_law_48 4 rfl rfl)
theorem dL_law_1203 : decode cL_law 1203 = .ok (.laload, 1) := dk_47 (dk_at dksL_law_48 5 rfl rfl)
theorem dL_law_1204 : decode cL_law 1204 = .ok (.iload 6, 2) := dk_21 6 (dk_at dksL_law_48 6 rfl rfl)
theorem dL_law_1206 : decode cL_law 1206 = .ok (.i2l, 1) := dk_133 (dk_at dksL_law_48 8 rfl rfl)
theorem dL_law_1207 : decode cL_law 1207 = .ok (.lcmp, 1) := dk_148 (dk_at dksL_law_48 9 rfl rfl)
theorem dL_law_1208 : decode cL_law 1208 = .ok (.ifCond .eq 5, 3) := dk_153 0 5 (dk_at dksL_law_48 10 rfl rfl)
theorem dL_law_1211 : decode cL_law 1211 = .ok (.iconst 0, 1) := dk_3 (dk_at dksL_law_48 13 rfl rfl)
theorem dL_law_1212 : decode cL_law 1212 = .ok (.ireturn, 1) := dk_172 (dk_at dksL_law_48 14 rfl rfl)
theorem dL_law_1213 : decode cL_law 1213 = .ok (.goto 383, 3) := dk_167 1 127 (dk_at dksL_law_48 15 rfl rfl)
theorem dL_law_1216 : decode cL_law 1216 = .ok (.aload_n 1, 1) := dk_43 (dk_at dksL_law_48 18 rfl rfl)
theorem dL_law_1217 : decode cL_law 1217 = .ok (.aload_n 0, 1) := dk_42 (dk_at dksL_law_48 19 rfl rfl)
theorem dL_law_1218 : decode cL_law 1218 = .ok (.iload 4, 2) := dk_21 4 (dk_at dksL_law_48 20 rfl rfl)
theorem dL_law_1220 : decode cL_law 1220 = .ok (.iconst 1, 1) := dk_4 (dk_at dksL_law_48 22 rfl rfl)
theorem dL_law_1221 : decode cL_law 1221 = .ok (.iadd, 1) := dk_96 (dk_at dksL_law_48 23 rfl rfl)
theorem dL_law_1222 : decode cL_law 1222 = .ok (.iaload, 1) := dk_46 (dk_at dksL_law_49 0 rfl rfl)
theorem dL_law_1223 : decode cL_law 1223 = .ok (.aload_n 0, 1) := dk_42 (dk_at dksL_law_49 1 rfl rfl)
theorem dL_law_1224 : decode cL_law 1224 = .ok (.iload 4, 2) := dk_21 4 (dk_at dksL_law_49 2 rfl rfl)
theorem dL_law_1226 : decode cL_law 1226 = .ok (.iconst 2, 1) := dk_5 (dk_at dksL_law_49 4 rfl rfl)
theorem dL_law_1227 : decode cL_law 1227 = .ok (.iadd, 1) := dk_96 (dk_at dksL_law_49 5 rfl rfl)
theorem dL_law_1228 : decode cL_law 1228 = .ok (.iaload, 1) := dk_46 (dk_at dksL_law_49 6 rfl rfl)
theorem dL_law_1229 : decode cL_law 1229 = .ok (.aload_n 3, 1) := dk_45 (dk_at dksL_law_49 7 rfl rfl)
theorem dL_law_1230 : decode cL_law 1230 = .ok (.invokestatic 173, 3) := dk_184 0 173 (dk_at dksL_law_49 8 rfl rfl)
theorem dL_law_1233 : decode cL_law 1233 = .ok (.istore 5, 2) := dk_54 5 (dk_at dksL_law_49 11 rfl rfl)
theorem dL_law_1235 : decode cL_law 1235 = .ok (.aload_n 2, 1) := dk_44 (dk_at dksL_law_49 13 rfl rfl)
theorem dL_law_1236 : decode cL_law 1236 = .ok (.aload_n 0, 1) := dk_42 (dk_at dksL_law_49 14 rfl rfl)
theorem dL_law_1237 : decode cL_law 1237 = .ok (.iload 4, 2) := dk_21 4 (dk_at dksL_law_49 15 rfl rfl)
theorem dL_law_1239 : decode cL_law 1239 = .ok (.iconst 1, 1) := dk_4 (dk_at dksL_law_49 17 rfl rfl)
theorem dL_law_1240 : decode cL_law 1240 = .ok (.iadd, 1) := dk_96 (dk_at dksL_law_49 18 rfl rfl)
theorem dL_law_1241 : decode cL_law 1241 = .ok (.iaload, 1) := dk_46 (dk_at dksL_law_49 19 rfl rfl)
theorem dL_law_1242 : decode cL_law 1242 = .ok (.aload_n 0, 1) := dk_42 (dk_at dksL_law_49 20 rfl rfl)
theorem dL_law_1243 : decode cL_law 1243 = .ok (.iload 4, 2) := dk_21 4 (dk_at dksL_law_49 21 rfl rfl)
theorem dL_law_1245 : decode cL_law 1245 = .ok (.iconst 2, 1) := dk_5 (dk_at dksL_law_49 23 rfl rfl)
theorem dL_law_1246 : decode cL_law 1246 = .ok (.iadd, 1) := dk_96 (dk_at dksL_law_50 0 rfl rfl)
theorem dL_law_1247 : decode cL_law 1247 = .ok (.iaload, 1) := dk_46 (dk_at dksL_law_50 1 rfl rfl)
theorem dL_law_1248 : decode cL_law 1248 = .ok (.invokevirtual 175, 3) := dk_182 0 175 (dk_at dksL_law_50 2 rfl rfl)
theorem dL_law_1251 : decode cL_law 1251 = .ok (.istore 6, 2) := dk_54 6 (dk_at dksL_law_50 5 rfl rfl)
theorem dL_law_1253 : decode cL_law 1253 = .ok (.aload_n 2, 1) := dk_44 (dk_at dksL_law_50 7 rfl rfl)
theorem dL_law_1254 : decode cL_law 1254 = .ok (.invokevirtual 100, 3) := dk_182 0 100 (dk_at dksL_law_50 8 rfl rfl)
theorem dL_law_1257 : decode cL_law 1257 = .ok (.iload 5, 2) := dk_21 5 (dk_at dksL_law_50 11 rfl rfl)
theorem dL_law_1259 : decode cL_law 1259 = .ok (.if_icmp .eq 5, 3) := dk_159 0 5 (dk_at dksL_law_50 13 rfl rfl)
theorem dL_law_1262 : decode cL_law 1262 = .ok (.iconst 0, 1) := dk_3 (dk_at dksL_law_50 16 rfl rfl)
theorem dL_law_1263 : decode cL_law 1263 = .ok (.ireturn, 1) := dk_172 (dk_at dksL_law_50 17 rfl rfl)
theorem dL_law_1264 : decode cL_law 1264 = .ok (.iload 5, 2) := dk_21 5 (dk_at dksL_law_50 18 rfl rfl)
theorem dL_law_1266 : decode cL_law 1266 = .ok (.ifCond .ne 15, 3) := dk_154 0 15 (dk_at dksL_law_50 20 rfl rfl)
theorem dL_law_1269 : decode cL_law 1269 = .ok (.aload_n 3, 1) := dk_45 (dk_at dksL_law_50 23 rfl rfl)
theorem dL_law_1270 : decode cL_law 1270 = .ok (.iconst 0, 1) := dk_3 (dk_at dksL_law_51 0 rfl rfl)
theorem dL_law_1271 : decode cL_law 1271 = .ok (.laload, 1) := dk_47 (dk_at dksL_law_51 1 rfl rfl)
theorem dL_law_1272 : decode cL_law 1272 = .ok (.iload 6, 2) := dk_21 6 (dk_at dksL_law_51 2 rfl rfl)
theorem dL_law_1274 : decode cL_law 1274 = .ok (.i2l, 1) := dk_133 (dk_at dksL_law_51 4 rfl rfl)
theorem dL_law_1275 : decode cL_law 1275 = .ok (.lcmp, 1) := dk_148 (dk_at dksL_law_51 5 rfl rfl)
theorem dL_law_1276 : decode cL_law 1276 = .ok (.ifCond .eq 5, 3) := dk_153 0 5 (dk_at dksL_law_51 6 rfl rfl)
theorem dL_law_1279 : decode cL_law 1279 = .ok (.iconst 0, 1) := dk_3 (dk_at dksL_law_51 9 rfl rfl)
theorem dL_law_1280 : decode cL_law 1280 = .ok (.ireturn, 1) := dk_172 (dk_at dksL_law_51 10 rfl rfl)
theorem dL_law_1281 : decode cL_law 1281 = .ok (.goto 315, 3) := dk_167 1 59 (dk_at dksL_law_51 11 rfl rfl)
theorem dL_law_1284 : decode cL_law 1284 = .ok (.aload_n 1, 1) := dk_43 (dk_at dksL_law_51 14 rfl rfl)
theorem dL_law_1285 : decode cL_law 1285 = .ok (.aload_n 0, 1) := dk_42 (dk_at dksL_law_51 15 rfl rfl)
theorem dL_law_1286 : decode cL_law 1286 = .ok (.iload 4, 2) := dk_21 4 (dk_at dksL_law_51 16 rfl rfl)
theorem dL_law_1288 : decode cL_law 1288 = .ok (.iconst 1, 1) := dk_4 (dk_at dksL_law_51 18 rfl rfl)
theorem dL_law_1289 : decode cL_law 1289 = .ok (.iadd, 1) := dk_96 (dk_at dksL_law_51 19 rfl rfl)
theorem dL_law_1290 : decode cL_law 1290 = .ok (.iaload, 1) := dk_46 (dk_at dksL_law_51 20 rfl rfl)
theorem dL_law_1291 : decode cL_law 1291 = .ok (.aload_n 0, 1) := dk_42 (dk_at dksL_law_51 21 rfl rfl)
theorem dL_law_1292 : decode cL_law 1292 = .ok (.iload 4, 2) := dk_21 4 (dk_at dksL_law_51 22 rfl rfl)
theorem dL_law_1294 : decode cL_law 1294 = .ok (.iconst 2, 1) := dk_5 (dk_at dksL_law_52 0 rfl rfl)
theorem dL_law_1295 : decode cL_law 1295 = .ok (.iadd, 1) := dk_96 (dk_at dksL_law_52 1 rfl rfl)
theorem dL_law_1296 : decode cL_law 1296 = .ok (.iaload, 1) := dk_46 (dk_at dksL_law_52 2 rfl rfl)
theorem dL_law_1297 : decode cL_law 1297 = .ok (.i2l, 1) := dk_133 (dk_at dksL_law_52 3 rfl rfl)
theorem dL_law_1298 : decode cL_law 1298 = .ok (.bipush 32, 2) := dk_16 32 (dk_at dksL_law_52 4 rfl rfl)
theorem dL_law_1300 : decode cL_law 1300 = .ok (.lshl, 1) := dk_121 (dk_at dksL_law_52 6 rfl rfl)
theorem dL_law_1301 : decode cL_law 1301 = .ok (.aload_n 0, 1) := dk_42 (dk_at dksL_law_52 7 rfl rfl)
theorem dL_law_1302 : decode cL_law 1302 = .ok (.iload 4, 2) := dk_21 4 (dk_at dksL_law_52 8 rfl rfl)
theorem dL_law_1304 : decode cL_law 1304 = .ok (.iconst 3, 1) := dk_6 (dk_at dksL_law_52 10 rfl rfl)
theorem dL_law_1305 : decode cL_law 1305 = .ok (.iadd, 1) := dk_96 (dk_at dksL_law_52 11 rfl rfl)
theorem dL_law_1306 : decode cL_law 1306 = .ok (.iaload, 1) := dk_46 (dk_at dksL_law_52 12 rfl rfl)
theorem dL_law_1307 : decode cL_law 1307 = .ok (.i2l, 1) := dk_133 (dk_at dksL_law_52 13 rfl rfl)
theorem dL_law_1308 : decode cL_law 1308 = .ok (.ldc2_w 176, 3) := dk_20 0 176 (dk_at dksL_law_52 14 rfl rfl)
theorem dL_law_1311 : decode cL_law 1311 = .ok (.land, 1) := dk_127 (dk_at dksL_law_52 17 rfl rfl)
theorem dL_law_1312 : decode cL_law 1312 = .ok (.lor, 1) := dk_129 (dk_at dksL_law_52 18 rfl rfl)
theorem dL_law_1313 : decode cL_law 1313 = .ok (.aload_n 3, 1) := dk_45 (dk_at dksL_law_52 19 rfl rfl)
theorem dL_law_1314 : decode cL_law 1314 = .ok (.invokestatic 178, 3) := dk_184 0 178 (dk_at dksL_law_52 20 rfl rfl)
theorem dL_law_1317 : decode cL_law 1317 = .ok (.istore 5, 2) := dk_54 5 (dk_at dksL_law_53 0 rfl rfl)
theorem dL_law_1319 : decode cL_law 1319 = .ok (.aload_n 2, 1) := dk_44 (dk_at dksL_law_53 2 rfl rfl)
theorem dL_law_1320 : decode cL_law 1320 = .ok (.aload_n 0, 1) := dk_42 (dk_at dksL_law_53 3 rfl rfl)
theorem dL_law_1321 : decode cL_law 1321 = .ok (.iload 4, 2) := dk_21 4 (dk_at dksL_law_53 4 rfl rfl)
theorem dL_law_1323 : decode cL_law 1323 = .ok (.iconst 1, 1) := dk_4 (dk_at dksL_law_53 6 rfl rfl)
theorem dL_law_1324 : decode cL_law 1324 = .ok (.iadd, 1) := dk_96 (dk_at dksL_law_53 7 rfl rfl)
theorem dL_law_1325 : decode cL_law 1325 = .ok (.iaload, 1) := dk_46 (dk_at dksL_law_53 8 rfl rfl)
theorem dL_law_1326 : decode cL_law 1326 = .ok (.aload_n 0, 1) := dk_42 (dk_at dksL_law_53 9 rfl rfl)
theorem dL_law_1327 : decode cL_law 1327 = .ok (.iload 4, 2) := dk_21 4 (dk_at dksL_law_53 10 rfl rfl)
theorem dL_law_1329 : decode cL_law 1329 = .ok (.iconst 2, 1) := dk_5 (dk_at dksL_law_53 12 rfl rfl)
theorem dL_law_1330 : decode cL_law 1330 = .ok (.iadd, 1) := dk_96 (dk_at dksL_law_53 13 rfl rfl)
theorem dL_law_1331 : decode cL_law 1331 = .ok (.iaload, 1) := dk_46 (dk_at dksL_law_53 14 rfl rfl)
theorem dL_law_1332 : decode cL_law 1332 = .ok (.i2l, 1) := dk_133 (dk_at dksL_law_53 15 rfl rfl)
theorem dL_law_1333 : decode cL_law 1333 = .ok (.bipush 32, 2) := dk_16 32 (dk_at dksL_law_53 16 rfl rfl)
theorem dL_law_1335 : decode cL_law 1335 = .ok (.lshl, 1) := dk_121 (dk_at dksL_law_53 18 rfl rfl)
theorem dL_law_1336 : decode cL_law 1336 = .ok (.aload_n 0, 1) := dk_42 (dk_at dksL_law_53 19 rfl rfl)
theorem dL_law_1337 : decode cL_law 1337 = .ok (.iload 4, 2) := dk_21 4 (dk_at dksL_law_53 20 rfl rfl)
theorem dL_law_1339 : decode cL_law 1339 = .ok (.iconst 3, 1) := dk_6 (dk_at dksL_law_53 22 rfl rfl)
theorem dL_law_1340 : decode cL_law 1340 = .ok (.iadd, 1) := dk_96 (dk_at dksL_law_53 23 rfl rfl)
theorem dL_law_1341 : decode cL_law 1341 = .ok (.iaload, 1) := dk_46 (dk_at dksL_law_54 0 rfl rfl)
theorem dL_law_1342 : decode cL_law 1342 = .ok (.i2l, 1) := dk_133 (dk_at dksL_law_54 1 rfl rfl)
theorem dL_law_1343 : decode cL_law 1343 = .ok (.ldc2_w 176, 3) := dk_20 0 176 (dk_at dksL_law_54 2 rfl rfl)
theorem dL_law_1346 : decode cL_law 1346 = .ok (.land, 1) := dk_127 (dk_at dksL_law_54 5 rfl rfl)
theorem dL_law_1347 : decode cL_law 1347 = .ok (.lor, 1) := dk_129 (dk_at dksL_law_54 6 rfl rfl)
theorem dL_law_1348 : decode cL_law 1348 = .ok (.invokevirtual 181, 3) := dk_182 0 181 (dk_at dksL_law_54 7 rfl rfl)
theorem dL_law_1351 : decode cL_law 1351 = .ok (.istore 6, 2) := dk_54 6 (dk_at dksL_law_54 10 rfl rfl)
theorem dL_law_1353 : decode cL_law 1353 = .ok (.aload_n 2, 1) := dk_44 (dk_at dksL_law_54 12 rfl rfl)
theorem dL_law_1354 : decode cL_law 1354 = .ok (.invokevirtual 100, 3) := dk_182 0 100 (dk_at dksL_law_54 13 rfl rfl)
theorem dL_law_1357 : decode cL_law 1357 = .ok (.iload 5, 2) := dk_21 5 (dk_at dksL_law_54 16 rfl rfl)
theorem dL_law_1359 : decode cL_law 1359 = .ok (.if_icmp .eq 5, 3) := dk_159 0 5 (dk_at dksL_law_54 18 rfl rfl)
theorem dL_law_1362 : decode cL_law 1362 = .ok (.iconst 0, 1) := dk_3 (dk_at dksL_law_54 21 rfl rfl)
theorem dL_law_1363 : decode cL_law 1363 = .ok (.ireturn, 1) := dk_172 (dk_at dksL_law_54 22 rfl rfl)
theorem dL_law_1364 : decode cL_law 1364 = .ok (.iload 5, 2) := dk_21 5 (dk_at dksL_law_55 0 rfl rfl)
theorem dL_law_1366 : decode cL_law 1366 = .ok (.ifCond .ne 15, 3) := dk_154 0 15 (dk_at dksL_law_55 2 rfl rfl)
theorem dL_law_1369 : decode cL_law 1369 = .ok (.aload_n 3, 1) := dk_45 (dk_at dksL_law_55 5 rfl rfl)
theorem dL_law_1370 : decode cL_law 1370 = .ok (.iconst 0, 1) := dk_3 (dk_at dksL_law_55 6 rfl rfl)
theorem dL_law_1371 : decode cL_law 1371 = .ok (.laload, 1) := dk_47 (dk_at dksL_law_55 7 rfl rfl)
theorem dL_law_1372 : decode cL_law 1372 = .ok (.iload 6, 2) := dk_21 6 (dk_at dksL_law_55 8 rfl rfl)
theorem dL_law_1374 : decode cL_law 1374 = .ok (.i2l, 1) := dk_133 (dk_at dksL_law_55 10 rfl rfl)
theorem dL_law_1375 : decode cL_law 1375 = .ok (.lcmp, 1) := dk_148 (dk_at dksL_law_55 11 rfl rfl)
theorem dL_law_1376 : decode cL_law 1376 = .ok (.ifCond .eq 5, 3) := dk_153 0 5 (dk_at dksL_law_55 12 rfl rfl)
theorem dL_law_1379 : decode cL_law 1379 = .ok (.iconst 0, 1) := dk_3 (dk_at dksL_law_55 15 rfl rfl)
theorem dL_law_1380 : decode cL_law 1380 = .ok (.ireturn, 1) := dk_172 (dk_at dksL_law_55 16 rfl rfl)
theorem dL_law_1381 : decode cL_law 1381 = .ok (.goto 215, 3) := dk_167 0 215 (dk_at dksL_law_55 17 rfl rfl)
theorem dL_law_1384 : decode cL_law 1384 = .ok (.aload_n 1, 1) := dk_43 (dk_at dksL_law_55 20 rfl rfl)
theorem dL_law_1385 : decode cL_law 1385 = .ok (.aload_n 0, 1) := dk_42 (dk_at dksL_law_55 21 rfl rfl)
theorem dL_law_1386 : decode cL_law 1386 = .ok (.iload 4, 2) := dk_21 4 (dk_at dksL_law_55 22 rfl rfl)
theorem dL_law_1388 : decode cL_law 1388 = .ok (.iconst 1, 1) := dk_4 (dk_at dksL_law_56 0 rfl rfl)
theorem dL_law_1389 : decode cL_law 1389 = .ok (.iadd, 1) := dk_96 (dk_at dksL_law_56 1 rfl rfl)
theorem dL_law_1390 : decode cL_law 1390 = .ok (.iaload, 1) := dk_46 (dk_at dksL_law_56 2 rfl rfl)
theorem dL_law_1391 : decode cL_law 1391 = .ok (.i2l, 1) := dk_133 (dk_at dksL_law_56 3 rfl rfl)
theorem dL_law_1392 : decode cL_law 1392 = .ok (.bipush 32, 2) := dk_16 32 (dk_at dksL_law_56 4 rfl rfl)
theorem dL_law_1394 : decode cL_law 1394 = .ok (.lshl, 1) := dk_121 (dk_at dksL_law_56 6 rfl rfl)
theorem dL_law_1395 : decode cL_law 1395 = .ok (.aload_n 0, 1) := dk_42 (dk_at dksL_law_56 7 rfl rfl)
theorem dL_law_1396 : decode cL_law 1396 = .ok (.iload 4, 2) := dk_21 4 (dk_at dksL_law_56 8 rfl rfl)
theorem dL_law_1398 : decode cL_law 1398 = .ok (.iconst 2, 1) := dk_5 (dk_at dksL_law_56 10 rfl rfl)
theorem dL_law_1399 : decode cL_law 1399 = .ok (.iadd, 1) := dk_96 (dk_at dksL_law_56 11 rfl rfl)
theorem dL_law_1400 : decode cL_law 1400 = .ok (.iaload, 1) := dk_46 (dk_at dksL_law_56 12 rfl rfl)
theorem dL_law_1401 : decode cL_law 1401 = .ok (.i2l, 1) := dk_133 (dk_at dksL_law_56 13 rfl rfl)
theorem dL_law_1402 : decode cL_law 1402 = .ok (.ldc2_w 176, 3) := dk_20 0 176 (dk_at dksL_law_56 14 rfl rfl)
theorem dL_law_1405 : decode cL_law 1405 = .ok (.land, 1) := dk_127 (dk_at dksL_law_56 17 rfl rfl)
theorem dL_law_1406 : decode cL_law 1406 = .ok (.lor, 1) := dk_129 (dk_at dksL_law_56 18 rfl rfl)
theorem dL_law_1407 : decode cL_law 1407 = .ok (.aload_n 0, 1) := dk_42 (dk_at dksL_law_56 19 rfl rfl)
theorem dL_law_1408 : decode cL_law 1408 = .ok (.iload 4, 2) := dk_21 4 (dk_at dksL_law_56 20 rfl rfl)
theorem dL_law_1410 : decode cL_law 1410 = .ok (.iconst 3, 1) := dk_6 (dk_at dksL_law_56 22 rfl rfl)
theorem dL_law_1411 : decode cL_law 1411 = .ok (.iadd, 1) := dk_96 (dk_at dksL_law_56 23 rfl rfl)
theorem dL_law_1412 : decode cL_law 1412 = .ok (.iaload, 1) := dk_46 (dk_at dksL_law_57 0 rfl rfl)
theorem dL_law_1413 : decode cL_law 1413 = .ok (.aload_n 3, 1) := dk_45 (dk_at dksL_law_57 1 rfl rfl)
theorem dL_law_1414 : decode cL_law 1414 = .ok (.invokestatic 182, 3) := dk_184 0 182 (dk_at dksL_law_57 2 rfl rfl)
theorem dL_law_1417 : decode cL_law 1417 = .ok (.istore 5, 2) := dk_54 5 (dk_at dksL_law_57 5 rfl rfl)
theorem dL_law_1419 : decode cL_law 1419 = .ok (.aload_n 2, 1) := dk_44 (dk_at dksL_law_57 7 rfl rfl)
theorem dL_law_1420 : decode cL_law 1420 = .ok (.aload_n 0, 1) := dk_42 (dk_at dksL_law_57 8 rfl rfl)
theorem dL_law_1421 : decode cL_law 1421 = .ok (.iload 4, 2) := dk_21 4 (dk_at dksL_law_57 9 rfl rfl)
theorem dL_law_1423 : decode cL_law 1423 = .ok (.iconst 1, 1) := dk_4 (dk_at dksL_law_57 11 rfl rfl)
theorem dL_law_1424 : decode cL_law 1424 = .ok (.iadd, 1) := dk_96 (dk_at dksL_law_57 12 rfl rfl)
theorem dL_law_1425 : decode cL_law 1425 = .ok (.iaload, 1) := dk_46 (dk_at dksL_law_57 13 rfl rfl)
theorem dL_law_1426 : decode cL_law 1426 = .ok (.i2l, 1) := dk_133 (dk_at dksL_law_57 14 rfl rfl)
theorem dL_law_1427 : decode cL_law 1427 = .ok (.bipush 32, 2) := dk_16 32 (dk_at dksL_law_57 15 rfl rfl)
theorem dL_law_1429 : decode cL_law 1429 = .ok (.lshl, 1) := dk_121 (dk_at dksL_law_57 17 rfl rfl)
theorem dL_law_1430 : decode cL_law 1430 = .ok (.aload_n 0, 1) := dk_42 (dk_at dksL_law_57 18 rfl rfl)
theorem dL_law_1431 : decode cL_law 1431 = .ok (.iload 4, 2) := dk_21 4 (dk_at dksL_law_57 19 rfl rfl)
theorem dL_law_1433 : decode cL_law 1433 = .ok (.iconst 2, 1) := dk_5 (dk_at dksL_law_57 21 rfl rfl)
theorem dL_law_1434 : decode cL_law 1434 = .ok (.iadd, 1) := dk_96 (dk_at dksL_law_57 22 rfl rfl)
theorem dL_law_1435 : decode cL_law 1435 = .ok (.iaload, 1) := dk_46 (dk_at dksL_law_57 23 rfl rfl)
theorem dL_law_1436 : decode cL_law 1436 = .ok (.i2l, 1) := dk_133 (dk_at dksL_law_58 0 rfl rfl)
theorem dL_law_1437 : decode cL_law 1437 = .ok (.ldc2_w 176, 3) := dk_20 0 176 (dk_at dksL_law_58 1 rfl rfl)
theorem dL_law_1440 : decode cL_law 1440 = .ok (.land, 1) := dk_127 (dk_at dksL_law_58 4 rfl rfl)
theorem dL_law_1441 : decode cL_law 1441 = .ok (.lor, 1) := dk_129 (dk_at dksL_law_58 5 rfl rfl)
theorem dL_law_1442 : decode cL_law 1442 = .ok (.aload_n 0, 1) := dk_42 (dk_at dksL_law_58 6 rfl rfl)
theorem dL_law_1443 : decode cL_law 1443 = .ok (.iload 4, 2) := dk_21 4 (dk_at dksL_law_58 7 rfl rfl)
theorem dL_law_1445 : decode cL_law 1445 = .ok (.iconst 3, 1) := dk_6 (dk_at dksL_law_58 9 rfl rfl)
theorem dL_law_1446 : decode cL_law 1446 = .ok (.iadd, 1) := dk_96 (dk_at dksL_law_58 10 rfl rfl)
theorem dL_law_1447 : decode cL_law 1447 = .ok (.iaload, 1) := dk_46 (dk_at dksL_law_58 11 rfl rfl)
theorem dL_law_1448 : decode cL_law 1448 = .ok (.invokevirtual 185, 3) := dk_182 0 185 (dk_at dksL_law_58 12 rfl rfl)
theorem dL_law_1451 : decode cL_law 1451 = .ok (.istore 6, 2) := dk_54 6 (dk_at dksL_law_58 15 rfl rfl)
theorem dL_law_1453 : decode cL_law 1453 = .ok (.aload_n 2, 1) := dk_44 (dk_at dksL_law_58 17 rfl rfl)
theorem dL_law_1454 : decode cL_law 1454 = .ok (.invokevirtual 100, 3) := dk_182 0 100 (dk_at dksL_law_58 18 rfl rfl)
theorem dL_law_1457 : decode cL_law 1457 = .ok (.iload 5, 2) := dk_21 5 (dk_at dksL_law_58 21 rfl rfl)
theorem dL_law_1459 : decode cL_law 1459 = .ok (.if_icmp .eq 5, 3) := dk_159 0 5 (dk_at dksL_law_59 0 rfl rfl)
theorem dL_law_1462 : decode cL_law 1462 = .ok (.iconst 0, 1) := dk_3 (dk_at dksL_law_59 3 rfl rfl)
theorem dL_law_1463 : decode cL_law 1463 = .ok (.ireturn, 1) := dk_172 (dk_at dksL_law_59 4 rfl rfl)
theorem dL_law_1464 : decode cL_law 1464 = .ok (.iload 5, 2) := dk_21 5 (dk_at dksL_law_59 5 rfl rfl)
theorem dL_law_1466 : decode cL_law 1466 = .ok (.ifCond .ne 15, 3) := dk_154 0 15 (dk_at dksL_law_59 7 rfl rfl)
theorem dL_law_1469 : decode cL_law 1469 = .ok (.aload_n 3, 1) := dk_45 (dk_at dksL_law_59 10 rfl rfl)
theorem dL_law_1470 : decode cL_law 1470 = .ok (.iconst 0, 1) := dk_3 (dk_at dksL_law_59 11 rfl rfl)
theorem dL_law_1471 : decode cL_law 1471 = .ok (.laload, 1) := dk_47 (dk_at dksL_law_59 12 rfl rfl)
theorem dL_law_1472 : decode cL_law 1472 = .ok (.iload 6, 2) := dk_21 6 (dk_at dksL_law_59 13 rfl rfl)
theorem dL_law_1474 : decode cL_law 1474 = .ok (.i2l, 1) := dk_133 (dk_at dksL_law_59 15 rfl rfl)
theorem dL_law_1475 : decode cL_law 1475 = .ok (.lcmp, 1) := dk_148 (dk_at dksL_law_59 16 rfl rfl)
theorem dL_law_1476 : decode cL_law 1476 = .ok (.ifCond .eq 5, 3) := dk_153 0 5 (dk_at dksL_law_59 17 rfl rfl)
theorem dL_law_1479 : decode cL_law 1479 = .ok (.iconst 0, 1) := dk_3 (dk_at dksL_law_59 20 rfl rfl)
theorem dL_law_1480 : decode cL_law 1480 = .ok (.ireturn, 1) := dk_172 (dk_at dksL_law_59 21 rfl rfl)
theorem dL_law_1481 : decode cL_law 1481 = .ok (.goto 115, 3) := dk_167 0 115 (dk_at dksL_law_60 0 rfl rfl)
theorem dL_law_1484 : decode cL_law 1484 = .ok (.aload_n 1, 1) := dk_43 (dk_at dksL_law_60 3 rfl rfl)
theorem dL_law_1485 : decode cL_law 1485 = .ok (.aload_n 0, 1) := dk_42 (dk_at dksL_law_60 4 rfl rfl)
theorem dL_law_1486 : decode cL_law 1486 = .ok (.iload 4, 2) := dk_21 4 (dk_at dksL_law_60 5 rfl rfl)
theorem dL_law_1488 : decode cL_law 1488 = .ok (.iconst 1, 1) := dk_4 (dk_at dksL_law_60 7 rfl rfl)
theorem dL_law_1489 : decode cL_law 1489 = .ok (.iadd, 1) := dk_96 (dk_at dksL_law_60 8 rfl rfl)
theorem dL_law_1490 : decode cL_law 1490 = .ok (.iaload, 1) := dk_46 (dk_at dksL_law_60 9 rfl rfl)
theorem dL_law_1491 : decode cL_law 1491 = .ok (.aload_n 3, 1) := dk_45 (dk_at dksL_law_60 10 rfl rfl)
theorem dL_law_1492 : decode cL_law 1492 = .ok (.invokestatic 186, 3) := dk_184 0 186 (dk_at dksL_law_60 11 rfl rfl)
theorem dL_law_1495 : decode cL_law 1495 = .ok (.istore 5, 2) := dk_54 5 (dk_at dksL_law_60 14 rfl rfl)
theorem dL_law_1497 : decode cL_law 1497 = .ok (.aload_n 2, 1) := dk_44 (dk_at dksL_law_60 16 rfl rfl)
theorem dL_law_1498 : decode cL_law 1498 = .ok (.aload_n 0, 1) := dk_42 (dk_at dksL_law_60 17 rfl rfl)
theorem dL_law_1499 : decode cL_law 1499 = .ok (.iload 4, 2) := dk_21 4 (dk_at dksL_law_60 18 rfl rfl)
theorem dL_law_1501 : decode cL_law 1501 = .ok (.iconst 1, 1) := dk_4 (dk_at dksL_law_60 20 rfl rfl)
theorem dL_law_1502 : decode cL_law 1502 = .ok (.iadd, 1) := dk_96 (dk_at dksL_law_60 21 rfl rfl)
theorem dL_law_1503 : decode cL_law 1503 = .ok (.iaload, 1) := dk_46 (dk_at dksL_law_60 22 rfl rfl)
theorem dL_law_1504 : decode cL_law 1504 = .ok (.invokevirtual 188, 3) := dk_182 0 188 (dk_at dksL_law_61 0 rfl rfl)
theorem dL_law_1507 : decode cL_law 1507 = .ok (.istore 6, 2) := dk_54 6 (dk_at dksL_law_61 3 rfl rfl)
theorem dL_law_1509 : decode cL_law 1509 = .ok (.aload_n 2, 1) := dk_44 (dk_at dksL_law_61 5 rfl rfl)
theorem dL_law_1510 : decode cL_law 1510 = .ok (.invokevirtual 100, 3) := dk_182 0 100 (dk_at dksL_law_61 6 rfl rfl)
theorem dL_law_1513 : decode cL_law 1513 = .ok (.iload 5, 2) := dk_21 5 (dk_at dksL_law_61 9 rfl rfl)
theorem dL_law_1515 : decode cL_law 1515 = .ok (.if_icmp .eq 5, 3) := dk_159 0 5 (dk_at dksL_law_61 11 rfl rfl)
theorem dL_law_1518 : decode cL_law 1518 = .ok (.iconst 0, 1) := dk_3 (dk_at dksL_law_61 14 rfl rfl)
theorem dL_law_1519 : decode cL_law 1519 = .ok (.ireturn, 1) := dk_172 (dk_at dksL_law_61 15 rfl rfl)
theorem dL_law_1520 : decode cL_law 1520 = .ok (.iload 5, 2) := dk_21 5 (dk_at dksL_law_61 16 rfl rfl)
theorem dL_law_1522 : decode cL_law 1522 = .ok (.ifCond .ne 15, 3) := dk_154 0 15 (dk_at dksL_law_61 18 rfl rfl)
theorem dL_law_1525 : decode cL_law 1525 = .ok (.aload_n 3, 1) := dk_45 (dk_at dksL_law_61 21 rfl rfl)
theorem dL_law_1526 : decode cL_law 1526 = .ok (.iconst 0, 1) := dk_3 (dk_at dksL_law_61 22 rfl rfl)
theorem dL_law_1527 : decode cL_law 1527 = .ok (.laload, 1) := dk_47 (dk_at dksL_law_61 23 rfl rfl)
theorem dL_law_1528 : decode cL_law 1528 = .ok (.iload 6, 2) := dk_21 6 (dk_at dksL_law_62 0 rfl rfl)
theorem dL_law_1530 : decode cL_law 1530 = .ok (.i2l, 1) := dk_133 (dk_at dksL_law_62 2 rfl rfl)
theorem dL_law_1531 : decode cL_law 1531 = .ok (.lcmp, 1) := dk_148 (dk_at dksL_law_62 3 rfl rfl)
theorem dL_law_1532 : decode cL_law 1532 = .ok (.ifCond .eq 5, 3) := dk_153 0 5 (dk_at dksL_law_62 4 rfl rfl)
theorem dL_law_1535 : decode cL_law 1535 = .ok (.iconst 0, 1) := dk_3 (dk_at dksL_law_62 7 rfl rfl)
theorem dL_law_1536 : decode cL_law 1536 = .ok (.ireturn, 1) := dk_172 (dk_at dksL_law_62 8 rfl rfl)
theorem dL_law_1537 : decode cL_law 1537 = .ok (.goto 59, 3) := dk_167 0 59 (dk_at dksL_law_62 9 rfl rfl)
theorem dL_law_1540 : decode cL_law 1540 = .ok (.aload_n 1, 1) := dk_43 (dk_at dksL_law_62 12 rfl rfl)
theorem dL_law_1541 : decode cL_law 1541 = .ok (.aload_n 0, 1) := dk_42 (dk_at dksL_law_62 13 rfl rfl)
theorem dL_law_1542 : decode cL_law 1542 = .ok (.iload 4, 2) := dk_21 4 (dk_at dksL_law_62 14 rfl rfl)
theorem dL_law_1544 : decode cL_law 1544 = .ok (.iconst 1, 1) := dk_4 (dk_at dksL_law_62 16 rfl rfl)
theorem dL_law_1545 : decode cL_law 1545 = .ok (.iadd, 1) := dk_96 (dk_at dksL_law_62 17 rfl rfl)
theorem dL_law_1546 : decode cL_law 1546 = .ok (.iaload, 1) := dk_46 (dk_at dksL_law_62 18 rfl rfl)
theorem dL_law_1547 : decode cL_law 1547 = .ok (.aload_n 3, 1) := dk_45 (dk_at dksL_law_62 19 rfl rfl)
theorem dL_law_1548 : decode cL_law 1548 = .ok (.invokestatic 189, 3) := dk_184 0 189 (dk_at dksL_law_62 20 rfl rfl)
theorem dL_law_1551 : decode cL_law 1551 = .ok (.istore 5, 2) := dk_54 5 (dk_at dksL_law_63 0 rfl rfl)
theorem dL_law_1553 : decode cL_law 1553 = .ok (.aload_n 2, 1) := dk_44 (dk_at dksL_law_63 2 rfl rfl)
theorem dL_law_1554 : decode cL_law 1554 = .ok (.aload_n 0, 1) := dk_42 (dk_at dksL_law_63 3 rfl rfl)
theorem dL_law_1555 : decode cL_law 1555 = .ok (.iload 4, 2) := dk_21 4 (dk_at dksL_law_63 4 rfl rfl)
theorem dL_law_1557 : decode cL_law 1557 = .ok (.iconst 1, 1) := dk_4 (dk_at dksL_law_63 6 rfl rfl)
theorem dL_law_1558 : decode cL_law 1558 = .ok (.iadd, 1) := dk_96 (dk_at dksL_law_63 7 rfl rfl)
theorem dL_law_1559 : decode cL_law 1559 = .ok (.iaload, 1) := dk_46 (dk_at dksL_law_63 8 rfl rfl)
theorem dL_law_1560 : decode cL_law 1560 = .ok (.invokevirtual 191, 3) := dk_182 0 191 (dk_at dksL_law_63 9 rfl rfl)
theorem dL_law_1563 : decode cL_law 1563 = .ok (.istore 6, 2) := dk_54 6 (dk_at dksL_law_63 12 rfl rfl)
theorem dL_law_1565 : decode cL_law 1565 = .ok (.aload_n 2, 1) := dk_44 (dk_at dksL_law_63 14 rfl rfl)
theorem dL_law_1566 : decode cL_law 1566 = .ok (.invokevirtual 100, 3) := dk_182 0 100 (dk_at dksL_law_63 15 rfl rfl)
theorem dL_law_1569 : decode cL_law 1569 = .ok (.iload 5, 2) := dk_21 5 (dk_at dksL_law_63 18 rfl rfl)
theorem dL_law_1571 : decode cL_law 1571 = .ok (.if_icmp .eq 5, 3) := dk_159 0 5 (dk_at dksL_law_63 20 rfl rfl)
theorem dL_law_1574 : decode cL_law 1574 = .ok (.iconst 0, 1) := dk_3 (dk_at dksL_law_63 23 rfl rfl)
theorem dL_law_1575 : decode cL_law 1575 = .ok (.ireturn, 1) := dk_172 (dk_at dksL_law_64 0 rfl rfl)
theorem dL_law_1576 : decode cL_law 1576 = .ok (.iload 5, 2) := dk_21 5 (dk_at dksL_law_64 1 rfl rfl)
theorem dL_law_1578 : decode cL_law 1578 = .ok (.ifCond .ne 15, 3) := dk_154 0 15 (dk_at dksL_law_64 3 rfl rfl)
theorem dL_law_1581 : decode cL_law 1581 = .ok (.aload_n 3, 1) := dk_45 (dk_at dksL_law_64 6 rfl rfl)
theorem dL_law_1582 : decode cL_law 1582 = .ok (.iconst 0, 1) := dk_3 (dk_at dksL_law_64 7 rfl rfl)
theorem dL_law_1583 : decode cL_law 1583 = .ok (.laload, 1) := dk_47 (dk_at dksL_law_64 8 rfl rfl)
theorem dL_law_1584 : decode cL_law 1584 = .ok (.iload 6, 2) := dk_21 6 (dk_at dksL_law_64 9 rfl rfl)
theorem dL_law_1586 : decode cL_law 1586 = .ok (.i2l, 1) := dk_133 (dk_at dksL_law_64 11 rfl rfl)
theorem dL_law_1587 : decode cL_law 1587 = .ok (.lcmp, 1) := dk_148 (dk_at dksL_law_64 12 rfl rfl)
theorem dL_law_1588 : decode cL_law 1588 = .ok (.ifCond .eq 5, 3) := dk_153 0 5 (dk_at dksL_law_64 13 rfl rfl)
theorem dL_law_1591 : decode cL_law 1591 = .ok (.iconst 0, 1) := dk_3 (dk_at dksL_law_64 16 rfl rfl)
theorem dL_law_1592 : decode cL_law 1592 = .ok (.ireturn, 1) := dk_172 (dk_at dksL_law_64 17 rfl rfl)
theorem dL_law_1593 : decode cL_law 1593 = .ok (.goto 3, 3) := dk_167 0 3 (dk_at dksL_law_64 18 rfl rfl)
theorem dL_law_1596 : decode cL_law 1596 = .ok (.iinc 4 4, 3) := dk_132 4 4 (dk_at dksL_law_64 21 rfl rfl)
theorem dL_law_1599 : decode cL_law 1599 = .ok (.goto (-1576), 3) := dk_167 249 216 (dk_at dksL_law_65 0 rfl rfl)
theorem dL_law_1602 : decode cL_law 1602 = .ok (.iconst 1, 1) := dk_4 (dk_at dksL_law_65 3 rfl rfl)
theorem dL_law_1603 : decode cL_law 1603 = .ok (.ireturn, 1) := dk_172 (dk_at dksL_law_65 4 rfl rfl)
abbrev cX0_append : ByteArray := method_3_code
def yX0_append : MethodName := ⟨RX0, "append", "(LFormulaEditor;I[J)I"⟩
def dkwX0_append_0 : List UInt8 := [44, 3, 42, 27, 182, 0, 7, 133, 80, 167, 0, 9, 78, 4, 172, 78, 5, 172, 3, 172]
abbrev dktX0_append_0 : List UInt8 := dkwX0_append_0 ++ []
theorem dksX0_append_0 : cX0_append.data.toList.drop 0 = dktX0_append_0 := by decide +kernel
theorem dX0_append_0 : decode cX0_append 0 = .ok (.aload_n 2, 1) := dk_44 (dk_at dksX0_append_0 0 rfl rfl)
theorem dX0_append_1 : decode cX0_append 1 = .ok (.iconst 0, 1) := dk_3 (dk_at dksX0_append_0 1 rfl rfl)
theorem dX0_append_2 : decode cX0_append 2 = .ok (.aload_n 0, 1) := dk_42 (dk_at dksX0_append_0 2 rfl rfl)
theorem dX0_append_3 : decode cX0_append 3 = .ok (.iload_n 1, 1) := dk_27 (dk_at dksX0_append_0 3 rfl rfl)
theorem dX0_append_4 : decode cX0_append 4 = .ok (.invokevirtual 7, 3) := dk_182 0 7 (dk_at dksX0_append_0 4 rfl rfl)
theorem dX0_append_7 : decode cX0_append 7 = .ok (.i2l, 1) := dk_133 (dk_at dksX0_append_0 7 rfl rfl)
theorem dX0_append_8 : decode cX0_append 8 = .ok (.lastore, 1) := dk_80 (dk_at dksX0_append_0 8 rfl rfl)
theorem dX0_append_9 : decode cX0_append 9 = .ok (.goto 9, 3) := dk_167 0 9 (dk_at dksX0_append_0 9 rfl rfl)
theorem dX0_append_12 : decode cX0_append 12 = .ok (.astore_n 3, 1) := dk_78 (dk_at dksX0_append_0 12 rfl rfl)
theorem dX0_append_13 : decode cX0_append 13 = .ok (.iconst 1, 1) := dk_4 (dk_at dksX0_append_0 13 rfl rfl)
theorem dX0_append_14 : decode cX0_append 14 = .ok (.ireturn, 1) := dk_172 (dk_at dksX0_append_0 14 rfl rfl)
theorem dX0_append_15 : decode cX0_append 15 = .ok (.astore_n 3, 1) := dk_78 (dk_at dksX0_append_0 15 rfl rfl)
theorem dX0_append_16 : decode cX0_append 16 = .ok (.iconst 2, 1) := dk_5 (dk_at dksX0_append_0 16 rfl rfl)
theorem dX0_append_17 : decode cX0_append 17 = .ok (.ireturn, 1) := dk_172 (dk_at dksX0_append_0 17 rfl rfl)
theorem dX0_append_18 : decode cX0_append 18 = .ok (.iconst 0, 1) := dk_3 (dk_at dksX0_append_0 18 rfl rfl)
theorem dX0_append_19 : decode cX0_append 19 = .ok (.ireturn, 1) := dk_172 (dk_at dksX0_append_0 19 rfl rfl)
abbrev cX0_load : ByteArray := method_4_code
def yX0_load : MethodName := ⟨RX0, "load", "(LFormulaEditor;[J)I"⟩
def dkwX0_load_0 : List UInt8 := [43, 3, 42, 182, 0, 17, 133, 80, 167, 0, 6, 77, 4, 172, 3, 172]
abbrev dktX0_load_0 : List UInt8 := dkwX0_load_0 ++ []
theorem dksX0_load_0 : cX0_load.data.toList.drop 0 = dktX0_load_0 := by decide +kernel
theorem dX0_load_0 : decode cX0_load 0 = .ok (.aload_n 1, 1) := dk_43 (dk_at dksX0_load_0 0 rfl rfl)
theorem dX0_load_1 : decode cX0_load 1 = .ok (.iconst 0, 1) := dk_3 (dk_at dksX0_load_0 1 rfl rfl)
theorem dX0_load_2 : decode cX0_load 2 = .ok (.aload_n 0, 1) := dk_42 (dk_at dksX0_load_0 2 rfl rfl)
theorem dX0_load_3 : decode cX0_load 3 = .ok (.invokevirtual 17, 3) := dk_182 0 17 (dk_at dksX0_load_0 3 rfl rfl)
theorem dX0_load_6 : decode cX0_load 6 = .ok (.i2l, 1) := dk_133 (dk_at dksX0_load_0 6 rfl rfl)
theorem dX0_load_7 : decode cX0_load 7 = .ok (.lastore, 1) := dk_80 (dk_at dksX0_load_0 7 rfl rfl)
theorem dX0_load_8 : decode cX0_load 8 = .ok (.goto 6, 3) := dk_167 0 6 (dk_at dksX0_load_0 8 rfl rfl)
theorem dX0_load_11 : decode cX0_load 11 = .ok (.astore_n 2, 1) := dk_77 (dk_at dksX0_load_0 11 rfl rfl)
theorem dX0_load_12 : decode cX0_load 12 = .ok (.iconst 1, 1) := dk_4 (dk_at dksX0_load_0 12 rfl rfl)
theorem dX0_load_13 : decode cX0_load 13 = .ok (.ireturn, 1) := dk_172 (dk_at dksX0_load_0 13 rfl rfl)
theorem dX0_load_14 : decode cX0_load 14 = .ok (.iconst 0, 1) := dk_3 (dk_at dksX0_load_0 14 rfl rfl)
theorem dX0_load_15 : decode cX0_load 15 = .ok (.ireturn, 1) := dk_172 (dk_at dksX0_load_0 15 rfl rfl)
abbrev cX0_about : ByteArray := method_5_code
def yX0_about : MethodName := ⟨RX0, "about", "(LFormulaEditor;I[J)I"⟩
def dkwX0_about_0 : List UInt8 := [44, 3, 42, 27, 182, 0, 21, 133, 80, 167, 0, 6, 78, 4, 172, 3, 172]
abbrev dktX0_about_0 : List UInt8 := dkwX0_about_0 ++ []
theorem dksX0_about_0 : cX0_about.data.toList.drop 0 = dktX0_about_0 := by decide +kernel
theorem dX0_about_0 : decode cX0_about 0 = .ok (.aload_n 2, 1) := dk_44 (dk_at dksX0_about_0 0 rfl rfl)
theorem dX0_about_1 : decode cX0_about 1 = .ok (.iconst 0, 1) := dk_3 (dk_at dksX0_about_0 1 rfl rfl)
theorem dX0_about_2 : decode cX0_about 2 = .ok (.aload_n 0, 1) := dk_42 (dk_at dksX0_about_0 2 rfl rfl)
theorem dX0_about_3 : decode cX0_about 3 = .ok (.iload_n 1, 1) := dk_27 (dk_at dksX0_about_0 3 rfl rfl)
theorem dX0_about_4 : decode cX0_about 4 = .ok (.invokevirtual 21, 3) := dk_182 0 21 (dk_at dksX0_about_0 4 rfl rfl)
theorem dX0_about_7 : decode cX0_about 7 = .ok (.i2l, 1) := dk_133 (dk_at dksX0_about_0 7 rfl rfl)
theorem dX0_about_8 : decode cX0_about 8 = .ok (.lastore, 1) := dk_80 (dk_at dksX0_about_0 8 rfl rfl)
theorem dX0_about_9 : decode cX0_about 9 = .ok (.goto 6, 3) := dk_167 0 6 (dk_at dksX0_about_0 9 rfl rfl)
theorem dX0_about_12 : decode cX0_about 12 = .ok (.astore_n 3, 1) := dk_78 (dk_at dksX0_about_0 12 rfl rfl)
theorem dX0_about_13 : decode cX0_about 13 = .ok (.iconst 1, 1) := dk_4 (dk_at dksX0_about_0 13 rfl rfl)
theorem dX0_about_14 : decode cX0_about 14 = .ok (.ireturn, 1) := dk_172 (dk_at dksX0_about_0 14 rfl rfl)
theorem dX0_about_15 : decode cX0_about 15 = .ok (.iconst 0, 1) := dk_3 (dk_at dksX0_about_0 15 rfl rfl)
theorem dX0_about_16 : decode cX0_about 16 = .ok (.ireturn, 1) := dk_172 (dk_at dksX0_about_0 16 rfl rfl)
abbrev cX0_place : ByteArray := method_6_code
def yX0_place : MethodName := ⟨RX0, "place", "(LFormulaEditor;II[J)I"⟩
def dkwX0_place_0 : List UInt8 := [45, 3, 42, 27, 28, 182, 0, 24, 133, 80, 167, 0, 11, 58, 4, 4, 172, 58, 4, 5, 172, 3, 172]
abbrev dktX0_place_0 : List UInt8 := dkwX0_place_0 ++ []
theorem dksX0_place_0 : cX0_place.data.toList.drop 0 = dktX0_place_0 := by decide +kernel
theorem dX0_place_0 : decode cX0_place 0 = .ok (.aload_n 3, 1) := dk_45 (dk_at dksX0_place_0 0 rfl rfl)
theorem dX0_place_1 : decode cX0_place 1 = .ok (.iconst 0, 1) := dk_3 (dk_at dksX0_place_0 1 rfl rfl)
theorem dX0_place_2 : decode cX0_place 2 = .ok (.aload_n 0, 1) := dk_42 (dk_at dksX0_place_0 2 rfl rfl)
theorem dX0_place_3 : decode cX0_place 3 = .ok (.iload_n 1, 1) := dk_27 (dk_at dksX0_place_0 3 rfl rfl)
theorem dX0_place_4 : decode cX0_place 4 = .ok (.iload_n 2, 1) := dk_28 (dk_at dksX0_place_0 4 rfl rfl)
theorem dX0_place_5 : decode cX0_place 5 = .ok (.invokevirtual 24, 3) := dk_182 0 24 (dk_at dksX0_place_0 5 rfl rfl)
theorem dX0_place_8 : decode cX0_place 8 = .ok (.i2l, 1) := dk_133 (dk_at dksX0_place_0 8 rfl rfl)
theorem dX0_place_9 : decode cX0_place 9 = .ok (.lastore, 1) := dk_80 (dk_at dksX0_place_0 9 rfl rfl)
theorem dX0_place_10 : decode cX0_place 10 = .ok (.goto 11, 3) := dk_167 0 11 (dk_at dksX0_place_0 10 rfl rfl)
theorem dX0_place_13 : decode cX0_place 13 = .ok (.astore 4, 2) := dk_58 4 (dk_at dksX0_place_0 13 rfl rfl)
theorem dX0_place_15 : decode cX0_place 15 = .ok (.iconst 1, 1) := dk_4 (dk_at dksX0_place_0 15 rfl rfl)
theorem dX0_place_16 : decode cX0_place 16 = .ok (.ireturn, 1) := dk_172 (dk_at dksX0_place_0 16 rfl rfl)
theorem dX0_place_17 : decode cX0_place 17 = .ok (.astore 4, 2) := dk_58 4 (dk_at dksX0_place_0 17 rfl rfl)
theorem dX0_place_19 : decode cX0_place 19 = .ok (.iconst 2, 1) := dk_5 (dk_at dksX0_place_0 19 rfl rfl)
theorem dX0_place_20 : decode cX0_place 20 = .ok (.ireturn, 1) := dk_172 (dk_at dksX0_place_0 20 rfl rfl)
theorem dX0_place_21 : decode cX0_place 21 = .ok (.iconst 0, 1) := dk_3 (dk_at dksX0_place_0 21 rfl rfl)
theorem dX0_place_22 : decode cX0_place 22 = .ok (.ireturn, 1) := dk_172 (dk_at dksX0_place_0 22 rfl rfl)
abbrev cX0_selection : ByteArray := method_7_code
def yX0_selection : MethodName := ⟨RX0, "selection", "(LFormulaEditor;I[J)I"⟩
def dkwX0_selection_0 : List UInt8 := [44, 3, 42, 27, 182, 0, 30, 133, 80, 167, 0, 6, 78, 4, 172, 3, 172]
abbrev dktX0_selection_0 : List UInt8 := dkwX0_selection_0 ++ []
theorem dksX0_selection_0 : cX0_selection.data.toList.drop 0 = dktX0_selection_0 := by decide +kernel
theorem dX0_selection_0 : decode cX0_selection 0 = .ok (.aload_n 2, 1) := dk_44 (dk_at dksX0_selection_0 0 rfl rfl)
theorem dX0_selection_1 : decode cX0_selection 1 = .ok (.iconst 0, 1) := dk_3 (dk_at dksX0_selection_0 1 rfl rfl)
theorem dX0_selection_2 : decode cX0_selection 2 = .ok (.aload_n 0, 1) := dk_42 (dk_at dksX0_selection_0 2 rfl rfl)
theorem dX0_selection_3 : decode cX0_selection 3 = .ok (.iload_n 1, 1) := dk_27 (dk_at dksX0_selection_0 3 rfl rfl)
theorem dX0_selection_4 : decode cX0_selection 4 = .ok (.invokevirtual 30, 3) := dk_182 0 30 (dk_at dksX0_selection_0 4 rfl rfl)
theorem dX0_selection_7 : decode cX0_selection 7 = .ok (.i2l, 1) := dk_133 (dk_at dksX0_selection_0 7 rfl rfl)
theorem dX0_selection_8 : decode cX0_selection 8 = .ok (.lastore, 1) := dk_80 (dk_at dksX0_selection_0 8 rfl rfl)
theorem dX0_selection_9 : decode cX0_selection 9 = .ok (.goto 6, 3) := dk_167 0 6 (dk_at dksX0_selection_0 9 rfl rfl)
theorem dX0_selection_12 : decode cX0_selection 12 = .ok (.astore_n 3, 1) := dk_78 (dk_at dksX0_selection_0 12 rfl rfl)
theorem dX0_selection_13 : decode cX0_selection 13 = .ok (.iconst 1, 1) := dk_4 (dk_at dksX0_selection_0 13 rfl rfl)
theorem dX0_selection_14 : decode cX0_selection 14 = .ok (.ireturn, 1) := dk_172 (dk_at dksX0_selection_0 14 rfl rfl)
theorem dX0_selection_15 : decode cX0_selection 15 = .ok (.iconst 0, 1) := dk_3 (dk_at dksX0_selection_0 15 rfl rfl)
theorem dX0_selection_16 : decode cX0_selection 16 = .ok (.ireturn, 1) := dk_172 (dk_at dksX0_selection_0 16 rfl rfl)
abbrev cX0_linearAt : ByteArray := method_8_code
def yX0_linearAt : MethodName := ⟨RX0, "linearAt", "(LFormulaEditor;I[J)I"⟩
def dkwX0_linearAt_0 : List UInt8 := [44, 3, 42, 27, 182, 0, 33, 133, 80, 167, 0, 6, 78, 4, 172, 3, 172]
abbrev dktX0_linearAt_0 : List UInt8 := dkwX0_linearAt_0 ++ []
theorem dksX0_linearAt_0 : cX0_linearAt.data.toList.drop 0 = dktX0_linearAt_0 := by decide +kernel
theorem dX0_linearAt_0 : decode cX0_linearAt 0 = .ok (.aload_n 2, 1) := dk_44 (dk_at dksX0_linearAt_0 0 rfl rfl)
theorem dX0_linearAt_1 : decode cX0_linearAt 1 = .ok (.iconst 0, 1) := dk_3 (dk_at dksX0_linearAt_0 1 rfl rfl)
theorem dX0_linearAt_2 : decode cX0_linearAt 2 = .ok (.aload_n 0, 1) := dk_42 (dk_at dksX0_linearAt_0 2 rfl rfl)
theorem dX0_linearAt_3 : decode cX0_linearAt 3 = .ok (.iload_n 1, 1) := dk_27 (dk_at dksX0_linearAt_0 3 rfl rfl)
theorem dX0_linearAt_4 : decode cX0_linearAt 4 = .ok (.invokevirtual 33, 3) := dk_182 0 33 (dk_at dksX0_linearAt_0 4 rfl rfl)
theorem dX0_linearAt_7 : decode cX0_linearAt 7 = .ok (.i2l, 1) := dk_133 (dk_at dksX0_linearAt_0 7 rfl rfl)
theorem dX0_linearAt_8 : decode cX0_linearAt 8 = .ok (.lastore, 1) := dk_80 (dk_at dksX0_linearAt_0 8 rfl rfl)
theorem dX0_linearAt_9 : decode cX0_linearAt 9 = .ok (.goto 6, 3) := dk_167 0 6 (dk_at dksX0_linearAt_0 9 rfl rfl)
theorem dX0_linearAt_12 : decode cX0_linearAt 12 = .ok (.astore_n 3, 1) := dk_78 (dk_at dksX0_linearAt_0 12 rfl rfl)
theorem dX0_linearAt_13 : decode cX0_linearAt 13 = .ok (.iconst 1, 1) := dk_4 (dk_at dksX0_linearAt_0 13 rfl rfl)
theorem dX0_linearAt_14 : decode cX0_linearAt 14 = .ok (.ireturn, 1) := dk_172 (dk_at dksX0_linearAt_0 14 rfl rfl)
theorem dX0_linearAt_15 : decode cX0_linearAt 15 = .ok (.iconst 0, 1) := dk_3 (dk_at dksX0_linearAt_0 15 rfl rfl)
theorem dX0_linearAt_16 : decode cX0_linearAt 16 = .ok (.ireturn, 1) := dk_172 (dk_at dksX0_linearAt_0 16 rfl rfl)
abbrev cX0_moveTo : ByteArray := method_9_code
def yX0_moveTo : MethodName := ⟨RX0, "moveTo", "(LFormulaEditor;I[J)I"⟩
def dkwX0_moveTo_0 : List UInt8 := [44, 3, 42, 27, 182, 0, 36, 133, 80, 167, 0, 6, 78, 4, 172, 3, 172]
abbrev dktX0_moveTo_0 : List UInt8 := dkwX0_moveTo_0 ++ []
theorem dksX0_moveTo_0 : cX0_moveTo.data.toList.drop 0 = dktX0_moveTo_0 := by decide +kernel
theorem dX0_moveTo_0 : decode cX0_moveTo 0 = .ok (.aload_n 2, 1) := dk_44 (dk_at dksX0_moveTo_0 0 rfl rfl)
theorem dX0_moveTo_1 : decode cX0_moveTo 1 = .ok (.iconst 0, 1) := dk_3 (dk_at dksX0_moveTo_0 1 rfl rfl)
theorem dX0_moveTo_2 : decode cX0_moveTo 2 = .ok (.aload_n 0, 1) := dk_42 (dk_at dksX0_moveTo_0 2 rfl rfl)
theorem dX0_moveTo_3 : decode cX0_moveTo 3 = .ok (.iload_n 1, 1) := dk_27 (dk_at dksX0_moveTo_0 3 rfl rfl)
theorem dX0_moveTo_4 : decode cX0_moveTo 4 = .ok (.invokevirtual 36, 3) := dk_182 0 36 (dk_at dksX0_moveTo_0 4 rfl rfl)
theorem dX0_moveTo_7 : decode cX0_moveTo 7 = .ok (.i2l, 1) := dk_133 (dk_at dksX0_moveTo_0 7 rfl rfl)
theorem dX0_moveTo_8 : decode cX0_moveTo 8 = .ok (.lastore, 1) := dk_80 (dk_at dksX0_moveTo_0 8 rfl rfl)
theorem dX0_moveTo_9 : decode cX0_moveTo 9 = .ok (.goto 6, 3) := dk_167 0 6 (dk_at dksX0_moveTo_0 9 rfl rfl)
theorem dX0_moveTo_12 : decode cX0_moveTo 12 = .ok (.astore_n 3, 1) := dk_78 (dk_at dksX0_moveTo_0 12 rfl rfl)
theorem dX0_moveTo_13 : decode cX0_moveTo 13 = .ok (.iconst 1, 1) := dk_4 (dk_at dksX0_moveTo_0 13 rfl rfl)
theorem dX0_moveTo_14 : decode cX0_moveTo 14 = .ok (.ireturn, 1) := dk_172 (dk_at dksX0_moveTo_0 14 rfl rfl)
theorem dX0_moveTo_15 : decode cX0_moveTo 15 = .ok (.iconst 0, 1) := dk_3 (dk_at dksX0_moveTo_0 15 rfl rfl)
theorem dX0_moveTo_16 : decode cX0_moveTo 16 = .ok (.ireturn, 1) := dk_172 (dk_at dksX0_moveTo_0 16 rfl rfl)
abbrev cX0_moveBy : ByteArray := method_10_code
def yX0_moveBy : MethodName := ⟨RX0, "moveBy", "(LFormulaEditor;I[J)I"⟩
def dkwX0_moveBy_0 : List UInt8 := [44, 3, 42, 27, 182, 0, 39, 133, 80, 167, 0, 6, 78, 4, 172, 3, 172]
abbrev dktX0_moveBy_0 : List UInt8 := dkwX0_moveBy_0 ++ []
theorem dksX0_moveBy_0 : cX0_moveBy.data.toList.drop 0 = dktX0_moveBy_0 := by decide +kernel
theorem dX0_moveBy_0 : decode cX0_moveBy 0 = .ok (.aload_n 2, 1) := dk_44 (dk_at dksX0_moveBy_0 0 rfl rfl)
theorem dX0_moveBy_1 : decode cX0_moveBy 1 = .ok (.iconst 0, 1) := dk_3 (dk_at dksX0_moveBy_0 1 rfl rfl)
theorem dX0_moveBy_2 : decode cX0_moveBy 2 = .ok (.aload_n 0, 1) := dk_42 (dk_at dksX0_moveBy_0 2 rfl rfl)
theorem dX0_moveBy_3 : decode cX0_moveBy 3 = .ok (.iload_n 1, 1) := dk_27 (dk_at dksX0_moveBy_0 3 rfl rfl)
theorem dX0_moveBy_4 : decode cX0_moveBy 4 = .ok (.invokevirtual 39, 3) := dk_182 0 39 (dk_at dksX0_moveBy_0 4 rfl rfl)
theorem dX0_moveBy_7 : decode cX0_moveBy 7 = .ok (.i2l, 1) := dk_133 (dk_at dksX0_moveBy_0 7 rfl rfl)
theorem dX0_moveBy_8 : decode cX0_moveBy 8 = .ok (.lastore, 1) := dk_80 (dk_at dksX0_moveBy_0 8 rfl rfl)
theorem dX0_moveBy_9 : decode cX0_moveBy 9 = .ok (.goto 6, 3) := dk_167 0 6 (dk_at dksX0_moveBy_0 9 rfl rfl)
theorem dX0_moveBy_12 : decode cX0_moveBy 12 = .ok (.astore_n 3, 1) := dk_78 (dk_at dksX0_moveBy_0 12 rfl rfl)
theorem dX0_moveBy_13 : decode cX0_moveBy 13 = .ok (.iconst 1, 1) := dk_4 (dk_at dksX0_moveBy_0 13 rfl rfl)
theorem dX0_moveBy_14 : decode cX0_moveBy 14 = .ok (.ireturn, 1) := dk_172 (dk_at dksX0_moveBy_0 14 rfl rfl)
theorem dX0_moveBy_15 : decode cX0_moveBy 15 = .ok (.iconst 0, 1) := dk_3 (dk_at dksX0_moveBy_0 15 rfl rfl)
theorem dX0_moveBy_16 : decode cX0_moveBy 16 = .ok (.ireturn, 1) := dk_172 (dk_at dksX0_moveBy_0 16 rfl rfl)
abbrev cX0_extend : ByteArray := method_11_code
def yX0_extend : MethodName := ⟨RX0, "extend", "(LFormulaEditor;Z[J)I"⟩
def dkwX0_extend_0 : List UInt8 := [44, 3, 42, 27, 182, 0, 42, 133, 80, 167, 0, 6, 78, 4, 172, 3, 172]
abbrev dktX0_extend_0 : List UInt8 := dkwX0_extend_0 ++ []
theorem dksX0_extend_0 : cX0_extend.data.toList.drop 0 = dktX0_extend_0 := by decide +kernel
theorem dX0_extend_0 : decode cX0_extend 0 = .ok (.aload_n 2, 1) := dk_44 (dk_at dksX0_extend_0 0 rfl rfl)
theorem dX0_extend_1 : decode cX0_extend 1 = .ok (.iconst 0, 1) := dk_3 (dk_at dksX0_extend_0 1 rfl rfl)
theorem dX0_extend_2 : decode cX0_extend 2 = .ok (.aload_n 0, 1) := dk_42 (dk_at dksX0_extend_0 2 rfl rfl)
theorem dX0_extend_3 : decode cX0_extend 3 = .ok (.iload_n 1, 1) := dk_27 (dk_at dksX0_extend_0 3 rfl rfl)
theorem dX0_extend_4 : decode cX0_extend 4 = .ok (.invokevirtual 42, 3) := dk_182 0 42 (dk_at dksX0_extend_0 4 rfl rfl)
theorem dX0_extend_7 : decode cX0_extend 7 = .ok (.i2l, 1) := dk_133 (dk_at dksX0_extend_0 7 rfl rfl)
theorem dX0_extend_8 : decode cX0_extend 8 = .ok (.lastore, 1) := dk_80 (dk_at dksX0_extend_0 8 rfl rfl)
theorem dX0_extend_9 : decode cX0_extend 9 = .ok (.goto 6, 3) := dk_167 0 6 (dk_at dksX0_extend_0 9 rfl rfl)
theorem dX0_extend_12 : decode cX0_extend 12 = .ok (.astore_n 3, 1) := dk_78 (dk_at dksX0_extend_0 12 rfl rfl)
theorem dX0_extend_13 : decode cX0_extend 13 = .ok (.iconst 1, 1) := dk_4 (dk_at dksX0_extend_0 13 rfl rfl)
theorem dX0_extend_14 : decode cX0_extend 14 = .ok (.ireturn, 1) := dk_172 (dk_at dksX0_extend_0 14 rfl rfl)
theorem dX0_extend_15 : decode cX0_extend 15 = .ok (.iconst 0, 1) := dk_3 (dk_at dksX0_extend_0 15 rfl rfl)
theorem dX0_extend_16 : decode cX0_extend 16 = .ok (.ireturn, 1) := dk_172 (dk_at dksX0_extend_0 16 rfl rfl)
abbrev cX0_grow : ByteArray := method_12_code
def yX0_grow : MethodName := ⟨RX0, "grow", "(LFormulaEditor;[J)I"⟩
def dkwX0_grow_0 : List UInt8 := [43, 3, 42, 182, 0, 46, 133, 80, 167, 0, 6, 77, 4, 172, 3, 172]
abbrev dktX0_grow_0 : List UInt8 := dkwX0_grow_0 ++ []
theorem dksX0_grow_0 : cX0_grow.data.toList.drop 0 = dktX0_grow_0 := by decide +kernel
theorem dX0_grow_0 : decode cX0_grow 0 = .ok (.aload_n 1, 1) := dk_43 (dk_at dksX0_grow_0 0 rfl rfl)
theorem dX0_grow_1 : decode cX0_grow 1 = .ok (.iconst 0, 1) := dk_3 (dk_at dksX0_grow_0 1 rfl rfl)
theorem dX0_grow_2 : decode cX0_grow 2 = .ok (.aload_n 0, 1) := dk_42 (dk_at dksX0_grow_0 2 rfl rfl)
theorem dX0_grow_3 : decode cX0_grow 3 = .ok (.invokevirtual 46, 3) := dk_182 0 46 (dk_at dksX0_grow_0 3 rfl rfl)
theorem dX0_grow_6 : decode cX0_grow 6 = .ok (.i2l, 1) := dk_133 (dk_at dksX0_grow_0 6 rfl rfl)
theorem dX0_grow_7 : decode cX0_grow 7 = .ok (.lastore, 1) := dk_80 (dk_at dksX0_grow_0 7 rfl rfl)
theorem dX0_grow_8 : decode cX0_grow 8 = .ok (.goto 6, 3) := dk_167 0 6 (dk_at dksX0_grow_0 8 rfl rfl)
theorem dX0_grow_11 : decode cX0_grow 11 = .ok (.astore_n 2, 1) := dk_77 (dk_at dksX0_grow_0 11 rfl rfl)
theorem dX0_grow_12 : decode cX0_grow 12 = .ok (.iconst 1, 1) := dk_4 (dk_at dksX0_grow_0 12 rfl rfl)
theorem dX0_grow_13 : decode cX0_grow 13 = .ok (.ireturn, 1) := dk_172 (dk_at dksX0_grow_0 13 rfl rfl)
theorem dX0_grow_14 : decode cX0_grow 14 = .ok (.iconst 0, 1) := dk_3 (dk_at dksX0_grow_0 14 rfl rfl)
theorem dX0_grow_15 : decode cX0_grow 15 = .ok (.ireturn, 1) := dk_172 (dk_at dksX0_grow_0 15 rfl rfl)
abbrev cX0_copy : ByteArray := method_13_code
def yX0_copy : MethodName := ⟨RX0, "copy", "(LFormulaEditor;[J)I"⟩
def dkwX0_copy_0 : List UInt8 := [43, 3, 42, 182, 0, 49, 133, 80, 167, 0, 6, 77, 4, 172, 3, 172]
abbrev dktX0_copy_0 : List UInt8 := dkwX0_copy_0 ++ []
theorem dksX0_copy_0 : cX0_copy.data.toList.drop 0 = dktX0_copy_0 := by decide +kernel
theorem dX0_copy_0 : decode cX0_copy 0 = .ok (.aload_n 1, 1) := dk_43 (dk_at dksX0_copy_0 0 rfl rfl)
theorem dX0_copy_1 : decode cX0_copy 1 = .ok (.iconst 0, 1) := dk_3 (dk_at dksX0_copy_0 1 rfl rfl)
theorem dX0_copy_2 : decode cX0_copy 2 = .ok (.aload_n 0, 1) := dk_42 (dk_at dksX0_copy_0 2 rfl rfl)
theorem dX0_copy_3 : decode cX0_copy 3 = .ok (.invokevirtual 49, 3) := dk_182 0 49 (dk_at dksX0_copy_0 3 rfl rfl)
theorem dX0_copy_6 : decode cX0_copy 6 = .ok (.i2l, 1) := dk_133 (dk_at dksX0_copy_0 6 rfl rfl)
theorem dX0_copy_7 : decode cX0_copy 7 = .ok (.lastore, 1) := dk_80 (dk_at dksX0_copy_0 7 rfl rfl)
theorem dX0_copy_8 : decode cX0_copy 8 = .ok (.goto 6, 3) := dk_167 0 6 (dk_at dksX0_copy_0 8 rfl rfl)
theorem dX0_copy_11 : decode cX0_copy 11 = .ok (.astore_n 2, 1) := dk_77 (dk_at dksX0_copy_0 11 rfl rfl)
theorem dX0_copy_12 : decode cX0_copy 12 = .ok (.iconst 1, 1) := dk_4 (dk_at dksX0_copy_0 12 rfl rfl)
theorem dX0_copy_13 : decode cX0_copy 13 = .ok (.ireturn, 1) := dk_172 (dk_at dksX0_copy_0 13 rfl rfl)
theorem dX0_copy_14 : decode cX0_copy 14 = .ok (.iconst 0, 1) := dk_3 (dk_at dksX0_copy_0 14 rfl rfl)
theorem dX0_copy_15 : decode cX0_copy 15 = .ok (.ireturn, 1) := dk_172 (dk_at dksX0_copy_0 15 rfl rfl)
abbrev cX0_type : ByteArray := method_14_code
def yX0_type : MethodName := ⟨RX0, "type", "(LFormulaEditor;I[J)I"⟩
def dkwX0_type_0 : List UInt8 := [44, 3, 42, 27, 182, 0, 52, 133, 80, 167, 0, 9, 78, 4, 172, 78, 5, 172, 3, 172]
abbrev dktX0_type_0 : List UInt8 := dkwX0_type_0 ++ []
theorem dksX0_type_0 : cX0_type.data.toList.drop 0 = dktX0_type_0 := by decide +kernel
theorem dX0_type_0 : decode cX0_type 0 = .ok (.aload_n 2, 1) := dk_44 (dk_at dksX0_type_0 0 rfl rfl)
theorem dX0_type_1 : decode cX0_type 1 = .ok (.iconst 0, 1) := dk_3 (dk_at dksX0_type_0 1 rfl rfl)
theorem dX0_type_2 : decode cX0_type 2 = .ok (.aload_n 0, 1) := dk_42 (dk_at dksX0_type_0 2 rfl rfl)
theorem dX0_type_3 : decode cX0_type 3 = .ok (.iload_n 1, 1) := dk_27 (dk_at dksX0_type_0 3 rfl rfl)
theorem dX0_type_4 : decode cX0_type 4 = .ok (.invokevirtual 52, 3) := dk_182 0 52 (dk_at dksX0_type_0 4 rfl rfl)
theorem dX0_type_7 : decode cX0_type 7 = .ok (.i2l, 1) := dk_133 (dk_at dksX0_type_0 7 rfl rfl)
theorem dX0_type_8 : decode cX0_type 8 = .ok (.lastore, 1) := dk_80 (dk_at dksX0_type_0 8 rfl rfl)
theorem dX0_type_9 : decode cX0_type 9 = .ok (.goto 9, 3) := dk_167 0 9 (dk_at dksX0_type_0 9 rfl rfl)
theorem dX0_type_12 : decode cX0_type 12 = .ok (.astore_n 3, 1) := dk_78 (dk_at dksX0_type_0 12 rfl rfl)
theorem dX0_type_13 : decode cX0_type 13 = .ok (.iconst 1, 1) := dk_4 (dk_at dksX0_type_0 13 rfl rfl)
theorem dX0_type_14 : decode cX0_type 14 = .ok (.ireturn, 1) := dk_172 (dk_at dksX0_type_0 14 rfl rfl)
theorem dX0_type_15 : decode cX0_type 15 = .ok (.astore_n 3, 1) := dk_78 (dk_at dksX0_type_0 15 rfl rfl)
theorem dX0_type_16 : decode cX0_type 16 = .ok (.iconst 2, 1) := dk_5 (dk_at dksX0_type_0 16 rfl rfl)
theorem dX0_type_17 : decode cX0_type 17 = .ok (.ireturn, 1) := dk_172 (dk_at dksX0_type_0 17 rfl rfl)
theorem dX0_type_18 : decode cX0_type 18 = .ok (.iconst 0, 1) := dk_3 (dk_at dksX0_type_0 18 rfl rfl)
theorem dX0_type_19 : decode cX0_type 19 = .ok (.ireturn, 1) := dk_172 (dk_at dksX0_type_0 19 rfl rfl)
abbrev cX0_wrap : ByteArray := method_15_code
def yX0_wrap : MethodName := ⟨RX0, "wrap", "(LFormulaEditor;I[J)I"⟩
def dkwX0_wrap_0 : List UInt8 := [44, 3, 42, 27, 182, 0, 55, 133, 80, 167, 0, 9, 78, 4, 172, 78, 5, 172, 3, 172]
abbrev dktX0_wrap_0 : List UInt8 := dkwX0_wrap_0 ++ []
theorem dksX0_wrap_0 : cX0_wrap.data.toList.drop 0 = dktX0_wrap_0 := by decide +kernel
theorem dX0_wrap_0 : decode cX0_wrap 0 = .ok (.aload_n 2, 1) := dk_44 (dk_at dksX0_wrap_0 0 rfl rfl)
theorem dX0_wrap_1 : decode cX0_wrap 1 = .ok (.iconst 0, 1) := dk_3 (dk_at dksX0_wrap_0 1 rfl rfl)
theorem dX0_wrap_2 : decode cX0_wrap 2 = .ok (.aload_n 0, 1) := dk_42 (dk_at dksX0_wrap_0 2 rfl rfl)
theorem dX0_wrap_3 : decode cX0_wrap 3 = .ok (.iload_n 1, 1) := dk_27 (dk_at dksX0_wrap_0 3 rfl rfl)
theorem dX0_wrap_4 : decode cX0_wrap 4 = .ok (.invokevirtual 55, 3) := dk_182 0 55 (dk_at dksX0_wrap_0 4 rfl rfl)
theorem dX0_wrap_7 : decode cX0_wrap 7 = .ok (.i2l, 1) := dk_133 (dk_at dksX0_wrap_0 7 rfl rfl)
theorem dX0_wrap_8 : decode cX0_wrap 8 = .ok (.lastore, 1) := dk_80 (dk_at dksX0_wrap_0 8 rfl rfl)
theorem dX0_wrap_9 : decode cX0_wrap 9 = .ok (.goto 9, 3) := dk_167 0 9 (dk_at dksX0_wrap_0 9 rfl rfl)
theorem dX0_wrap_12 : decode cX0_wrap 12 = .ok (.astore_n 3, 1) := dk_78 (dk_at dksX0_wrap_0 12 rfl rfl)
theorem dX0_wrap_13 : decode cX0_wrap 13 = .ok (.iconst 1, 1) := dk_4 (dk_at dksX0_wrap_0 13 rfl rfl)
theorem dX0_wrap_14 : decode cX0_wrap 14 = .ok (.ireturn, 1) := dk_172 (dk_at dksX0_wrap_0 14 rfl rfl)
theorem dX0_wrap_15 : decode cX0_wrap 15 = .ok (.astore_n 3, 1) := dk_78 (dk_at dksX0_wrap_0 15 rfl rfl)
theorem dX0_wrap_16 : decode cX0_wrap 16 = .ok (.iconst 2, 1) := dk_5 (dk_at dksX0_wrap_0 16 rfl rfl)
theorem dX0_wrap_17 : decode cX0_wrap 17 = .ok (.ireturn, 1) := dk_172 (dk_at dksX0_wrap_0 17 rfl rfl)
theorem dX0_wrap_18 : decode cX0_wrap 18 = .ok (.iconst 0, 1) := dk_3 (dk_at dksX0_wrap_0 18 rfl rfl)
theorem dX0_wrap_19 : decode cX0_wrap 19 = .ok (.ireturn, 1) := dk_172 (dk_at dksX0_wrap_0 19 rfl rfl)
abbrev cX0_backspace : ByteArray := method_16_code
def yX0_backspace : MethodName := ⟨RX0, "backspace", "(LFormulaEditor;[J)I"⟩
def dkwX0_backspace_0 : List UInt8 := [43, 3, 42, 182, 0, 58, 133, 80, 167, 0, 6, 77, 4, 172, 3, 172]
abbrev dktX0_backspace_0 : List UInt8 := dkwX0_backspace_0 ++ []
theorem dksX0_backspace_0 : cX0_backspace.data.toList.drop 0 = dktX0_backspace_0 := by decide +kernel
theorem dX0_backspace_0 : decode cX0_backspace 0 = .ok (.aload_n 1, 1) := dk_43 (dk_at dksX0_backspace_0 0 rfl rfl)
theorem dX0_backspace_1 : decode cX0_backspace 1 = .ok (.iconst 0, 1) := dk_3 (dk_at dksX0_backspace_0 1 rfl rfl)
theorem dX0_backspace_2 : decode cX0_backspace 2 = .ok (.aload_n 0, 1) := dk_42 (dk_at dksX0_backspace_0 2 rfl rfl)
theorem dX0_backspace_3 : decode cX0_backspace 3 = .ok (.invokevirtual 58, 3) := dk_182 0 58 (dk_at dksX0_backspace_0 3 rfl rfl)
theorem dX0_backspace_6 : decode cX0_backspace 6 = .ok (.i2l, 1) := dk_133 (dk_at dksX0_backspace_0 6 rfl rfl)
theorem dX0_backspace_7 : decode cX0_backspace 7 = .ok (.lastore, 1) := dk_80 (dk_at dksX0_backspace_0 7 rfl rfl)
theorem dX0_backspace_8 : decode cX0_backspace 8 = .ok (.goto 6, 3) := dk_167 0 6 (dk_at dksX0_backspace_0 8 rfl rfl)
theorem dX0_backspace_11 : decode cX0_backspace 11 = .ok (.astore_n 2, 1) := dk_77 (dk_at dksX0_backspace_0 11 rfl rfl)
theorem dX0_backspace_12 : decode cX0_backspace 12 = .ok (.iconst 1, 1) := dk_4 (dk_at dksX0_backspace_0 12 rfl rfl)
theorem dX0_backspace_13 : decode cX0_backspace 13 = .ok (.ireturn, 1) := dk_172 (dk_at dksX0_backspace_0 13 rfl rfl)
theorem dX0_backspace_14 : decode cX0_backspace 14 = .ok (.iconst 0, 1) := dk_3 (dk_at dksX0_backspace_0 14 rfl rfl)
theorem dX0_backspace_15 : decode cX0_backspace 15 = .ok (.ireturn, 1) := dk_172 (dk_at dksX0_backspace_0 15 rfl rfl)
abbrev cX0_paste : ByteArray := method_17_code
def yX0_paste : MethodName := ⟨RX0, "paste", "(LFormulaEditor;[J)I"⟩
def dkwX0_paste_0 : List UInt8 := [43, 3, 42, 182, 0, 61, 133, 80, 167, 0, 6, 77, 4, 172, 3, 172]
abbrev dktX0_paste_0 : List UInt8 := dkwX0_paste_0 ++ []
theorem dksX0_paste_0 : cX0_paste.data.toList.drop 0 = dktX0_paste_0 := by decide +kernel
theorem dX0_paste_0 : decode cX0_paste 0 = .ok (.aload_n 1, 1) := dk_43 (dk_at dksX0_paste_0 0 rfl rfl)
theorem dX0_paste_1 : decode cX0_paste 1 = .ok (.iconst 0, 1) := dk_3 (dk_at dksX0_paste_0 1 rfl rfl)
theorem dX0_paste_2 : decode cX0_paste 2 = .ok (.aload_n 0, 1) := dk_42 (dk_at dksX0_paste_0 2 rfl rfl)
theorem dX0_paste_3 : decode cX0_paste 3 = .ok (.invokevirtual 61, 3) := dk_182 0 61 (dk_at dksX0_paste_0 3 rfl rfl)
theorem dX0_paste_6 : decode cX0_paste 6 = .ok (.i2l, 1) := dk_133 (dk_at dksX0_paste_0 6 rfl rfl)
theorem dX0_paste_7 : decode cX0_paste 7 = .ok (.lastore, 1) := dk_80 (dk_at dksX0_paste_0 7 rfl rfl)
theorem dX0_paste_8 : decode cX0_paste 8 = .ok (.goto 6, 3) := dk_167 0 6 (dk_at dksX0_paste_0 8 rfl rfl)
theorem dX0_paste_11 : decode cX0_paste 11 = .ok (.astore_n 2, 1) := dk_77 (dk_at dksX0_paste_0 11 rfl rfl)
theorem dX0_paste_12 : decode cX0_paste 12 = .ok (.iconst 1, 1) := dk_4 (dk_at dksX0_paste_0 12 rfl rfl)
theorem dX0_paste_13 : decode cX0_paste 13 = .ok (.ireturn, 1) := dk_172 (dk_at dksX0_paste_0 13 rfl rfl)
theorem dX0_paste_14 : decode cX0_paste 14 = .ok (.iconst 0, 1) := dk_3 (dk_at dksX0_paste_0 14 rfl rfl)
theorem dX0_paste_15 : decode cX0_paste 15 = .ok (.ireturn, 1) := dk_172 (dk_at dksX0_paste_0 15 rfl rfl)
abbrev cX0_replace : ByteArray := method_18_code
def yX0_replace : MethodName := ⟨RX0, "replace", "(LFormulaEditor;II[J)I"⟩
def dkwX0_replace_0 : List UInt8 := [45, 3, 42, 27, 28, 182, 0, 64, 133, 80, 167, 0, 7, 58, 4, 4, 172, 3, 172]
abbrev dktX0_replace_0 : List UInt8 := dkwX0_replace_0 ++ []
theorem dksX0_replace_0 : cX0_replace.data.toList.drop 0 = dktX0_replace_0 := by decide +kernel
theorem dX0_replace_0 : decode cX0_replace 0 = .ok (.aload_n 3, 1) := dk_45 (dk_at dksX0_replace_0 0 rfl rfl)
theorem dX0_replace_1 : decode cX0_replace 1 = .ok (.iconst 0, 1) := dk_3 (dk_at dksX0_replace_0 1 rfl rfl)
theorem dX0_replace_2 : decode cX0_replace 2 = .ok (.aload_n 0, 1) := dk_42 (dk_at dksX0_replace_0 2 rfl rfl)
theorem dX0_replace_3 : decode cX0_replace 3 = .ok (.iload_n 1, 1) := dk_27 (dk_at dksX0_replace_0 3 rfl rfl)
theorem dX0_replace_4 : decode cX0_replace 4 = .ok (.iload_n 2, 1) := dk_28 (dk_at dksX0_replace_0 4 rfl rfl)
theorem dX0_replace_5 : decode cX0_replace 5 = .ok (.invokevirtual 64, 3) := dk_182 0 64 (dk_at dksX0_replace_0 5 rfl rfl)
theorem dX0_replace_8 : decode cX0_replace 8 = .ok (.i2l, 1) := dk_133 (dk_at dksX0_replace_0 8 rfl rfl)
theorem dX0_replace_9 : decode cX0_replace 9 = .ok (.lastore, 1) := dk_80 (dk_at dksX0_replace_0 9 rfl rfl)
theorem dX0_replace_10 : decode cX0_replace 10 = .ok (.goto 7, 3) := dk_167 0 7 (dk_at dksX0_replace_0 10 rfl rfl)
theorem dX0_replace_13 : decode cX0_replace 13 = .ok (.astore 4, 2) := dk_58 4 (dk_at dksX0_replace_0 13 rfl rfl)
theorem dX0_replace_15 : decode cX0_replace 15 = .ok (.iconst 1, 1) := dk_4 (dk_at dksX0_replace_0 15 rfl rfl)
theorem dX0_replace_16 : decode cX0_replace 16 = .ok (.ireturn, 1) := dk_172 (dk_at dksX0_replace_0 16 rfl rfl)
theorem dX0_replace_17 : decode cX0_replace 17 = .ok (.iconst 0, 1) := dk_3 (dk_at dksX0_replace_0 17 rfl rfl)
theorem dX0_replace_18 : decode cX0_replace 18 = .ok (.ireturn, 1) := dk_172 (dk_at dksX0_replace_0 18 rfl rfl)
abbrev cX0_undo : ByteArray := method_19_code
def yX0_undo : MethodName := ⟨RX0, "undo", "(LFormulaEditor;[J)I"⟩
def dkwX0_undo_0 : List UInt8 := [43, 3, 42, 182, 0, 67, 133, 80, 167, 0, 6, 77, 4, 172, 3, 172]
abbrev dktX0_undo_0 : List UInt8 := dkwX0_undo_0 ++ []
theorem dksX0_undo_0 : cX0_undo.data.toList.drop 0 = dktX0_undo_0 := by decide +kernel
theorem dX0_undo_0 : decode cX0_undo 0 = .ok (.aload_n 1, 1) := dk_43 (dk_at dksX0_undo_0 0 rfl rfl)
theorem dX0_undo_1 : decode cX0_undo 1 = .ok (.iconst 0, 1) := dk_3 (dk_at dksX0_undo_0 1 rfl rfl)
theorem dX0_undo_2 : decode cX0_undo 2 = .ok (.aload_n 0, 1) := dk_42 (dk_at dksX0_undo_0 2 rfl rfl)
theorem dX0_undo_3 : decode cX0_undo 3 = .ok (.invokevirtual 67, 3) := dk_182 0 67 (dk_at dksX0_undo_0 3 rfl rfl)
theorem dX0_undo_6 : decode cX0_undo 6 = .ok (.i2l, 1) := dk_133 (dk_at dksX0_undo_0 6 rfl rfl)
theorem dX0_undo_7 : decode cX0_undo 7 = .ok (.lastore, 1) := dk_80 (dk_at dksX0_undo_0 7 rfl rfl)
theorem dX0_undo_8 : decode cX0_undo 8 = .ok (.goto 6, 3) := dk_167 0 6 (dk_at dksX0_undo_0 8 rfl rfl)
theorem dX0_undo_11 : decode cX0_undo 11 = .ok (.astore_n 2, 1) := dk_77 (dk_at dksX0_undo_0 11 rfl rfl)
theorem dX0_undo_12 : decode cX0_undo 12 = .ok (.iconst 1, 1) := dk_4 (dk_at dksX0_undo_0 12 rfl rfl)
theorem dX0_undo_13 : decode cX0_undo 13 = .ok (.ireturn, 1) := dk_172 (dk_at dksX0_undo_0 13 rfl rfl)
theorem dX0_undo_14 : decode cX0_undo 14 = .ok (.iconst 0, 1) := dk_3 (dk_at dksX0_undo_0 14 rfl rfl)
theorem dX0_undo_15 : decode cX0_undo 15 = .ok (.ireturn, 1) := dk_172 (dk_at dksX0_undo_0 15 rfl rfl)
abbrev cX0_drawing : ByteArray := method_20_code
def yX0_drawing : MethodName := ⟨RX0, "drawing", "(LFormulaEditor;I[J)I"⟩
def dkwX0_drawing_0 : List UInt8 := [44, 3, 42, 27, 182, 0, 70, 133, 80, 167, 0, 6, 78, 4, 172, 3, 172]
abbrev dktX0_drawing_0 : List UInt8 := dkwX0_drawing_0 ++ []
theorem dksX0_drawing_0 : cX0_drawing.data.toList.drop 0 = dktX0_drawing_0 := by decide +kernel
theorem dX0_drawing_0 : decode cX0_drawing 0 = .ok (.aload_n 2, 1) := dk_44 (dk_at dksX0_drawing_0 0 rfl rfl)
theorem dX0_drawing_1 : decode cX0_drawing 1 = .ok (.iconst 0, 1) := dk_3 (dk_at dksX0_drawing_0 1 rfl rfl)
theorem dX0_drawing_2 : decode cX0_drawing 2 = .ok (.aload_n 0, 1) := dk_42 (dk_at dksX0_drawing_0 2 rfl rfl)
theorem dX0_drawing_3 : decode cX0_drawing 3 = .ok (.iload_n 1, 1) := dk_27 (dk_at dksX0_drawing_0 3 rfl rfl)
theorem dX0_drawing_4 : decode cX0_drawing 4 = .ok (.invokevirtual 70, 3) := dk_182 0 70 (dk_at dksX0_drawing_0 4 rfl rfl)
theorem dX0_drawing_7 : decode cX0_drawing 7 = .ok (.i2l, 1) := dk_133 (dk_at dksX0_drawing_0 7 rfl rfl)
theorem dX0_drawing_8 : decode cX0_drawing 8 = .ok (.lastore, 1) := dk_80 (dk_at dksX0_drawing_0 8 rfl rfl)
theorem dX0_drawing_9 : decode cX0_drawing 9 = .ok (.goto 6, 3) := dk_167 0 6 (dk_at dksX0_drawing_0 9 rfl rfl)
theorem dX0_drawing_12 : decode cX0_drawing 12 = .ok (.astore_n 3, 1) := dk_78 (dk_at dksX0_drawing_0 12 rfl rfl)
theorem dX0_drawing_13 : decode cX0_drawing 13 = .ok (.iconst 1, 1) := dk_4 (dk_at dksX0_drawing_0 13 rfl rfl)
theorem dX0_drawing_14 : decode cX0_drawing 14 = .ok (.ireturn, 1) := dk_172 (dk_at dksX0_drawing_0 14 rfl rfl)
theorem dX0_drawing_15 : decode cX0_drawing 15 = .ok (.iconst 0, 1) := dk_3 (dk_at dksX0_drawing_0 15 rfl rfl)
theorem dX0_drawing_16 : decode cX0_drawing 16 = .ok (.ireturn, 1) := dk_172 (dk_at dksX0_drawing_0 16 rfl rfl)
abbrev cX0_drawn : ByteArray := method_21_code
def yX0_drawn : MethodName := ⟨RX0, "drawn", "(LFormulaEditor;II[J)I"⟩
def dkwX0_drawn_0 : List UInt8 := [45, 3, 42, 27, 28, 182, 0, 73, 133, 80, 167, 0, 7, 58, 4, 4, 172, 3, 172]
abbrev dktX0_drawn_0 : List UInt8 := dkwX0_drawn_0 ++ []
theorem dksX0_drawn_0 : cX0_drawn.data.toList.drop 0 = dktX0_drawn_0 := by decide +kernel
theorem dX0_drawn_0 : decode cX0_drawn 0 = .ok (.aload_n 3, 1) := dk_45 (dk_at dksX0_drawn_0 0 rfl rfl)
theorem dX0_drawn_1 : decode cX0_drawn 1 = .ok (.iconst 0, 1) := dk_3 (dk_at dksX0_drawn_0 1 rfl rfl)
theorem dX0_drawn_2 : decode cX0_drawn 2 = .ok (.aload_n 0, 1) := dk_42 (dk_at dksX0_drawn_0 2 rfl rfl)
theorem dX0_drawn_3 : decode cX0_drawn 3 = .ok (.iload_n 1, 1) := dk_27 (dk_at dksX0_drawn_0 3 rfl rfl)
theorem dX0_drawn_4 : decode cX0_drawn 4 = .ok (.iload_n 2, 1) := dk_28 (dk_at dksX0_drawn_0 4 rfl rfl)
theorem dX0_drawn_5 : decode cX0_drawn 5 = .ok (.invokevirtual 73, 3) := dk_182 0 73 (dk_at dksX0_drawn_0 5 rfl rfl)
theorem dX0_drawn_8 : decode cX0_drawn 8 = .ok (.i2l, 1) := dk_133 (dk_at dksX0_drawn_0 8 rfl rfl)
theorem dX0_drawn_9 : decode cX0_drawn 9 = .ok (.lastore, 1) := dk_80 (dk_at dksX0_drawn_0 9 rfl rfl)
theorem dX0_drawn_10 : decode cX0_drawn 10 = .ok (.goto 7, 3) := dk_167 0 7 (dk_at dksX0_drawn_0 10 rfl rfl)
theorem dX0_drawn_13 : decode cX0_drawn 13 = .ok (.astore 4, 2) := dk_58 4 (dk_at dksX0_drawn_0 13 rfl rfl)
theorem dX0_drawn_15 : decode cX0_drawn 15 = .ok (.iconst 1, 1) := dk_4 (dk_at dksX0_drawn_0 15 rfl rfl)
theorem dX0_drawn_16 : decode cX0_drawn 16 = .ok (.ireturn, 1) := dk_172 (dk_at dksX0_drawn_0 16 rfl rfl)
theorem dX0_drawn_17 : decode cX0_drawn 17 = .ok (.iconst 0, 1) := dk_3 (dk_at dksX0_drawn_0 17 rfl rfl)
theorem dX0_drawn_18 : decode cX0_drawn 18 = .ok (.ireturn, 1) := dk_172 (dk_at dksX0_drawn_0 18 rfl rfl)
abbrev cX0_runScript : ByteArray := method_22_code
def yX0_runScript : MethodName := ⟨RX0, "runScript", "(LFormulaEditor;IJ[J)I"⟩
def dkwX0_runScript_0 : List UInt8 := [25, 4, 3, 42, 27, 32, 182, 0, 76, 133, 80, 167, 0, 7, 58, 5, 4, 172, 3, 172]
abbrev dktX0_runScript_0 : List UInt8 := dkwX0_runScript_0 ++ []
theorem dksX0_runScript_0 : cX0_runScript.data.toList.drop 0 = dktX0_runScript_0 := by decide +kernel
theorem dX0_runScript_0 : decode cX0_runScript 0 = .ok (.aload 4, 2) := dk_25 4 (dk_at dksX0_runScript_0 0 rfl rfl)
theorem dX0_runScript_2 : decode cX0_runScript 2 = .ok (.iconst 0, 1) := dk_3 (dk_at dksX0_runScript_0 2 rfl rfl)
theorem dX0_runScript_3 : decode cX0_runScript 3 = .ok (.aload_n 0, 1) := dk_42 (dk_at dksX0_runScript_0 3 rfl rfl)
theorem dX0_runScript_4 : decode cX0_runScript 4 = .ok (.iload_n 1, 1) := dk_27 (dk_at dksX0_runScript_0 4 rfl rfl)
theorem dX0_runScript_5 : decode cX0_runScript 5 = .ok (.lload_n 2, 1) := dk_32 (dk_at dksX0_runScript_0 5 rfl rfl)
theorem dX0_runScript_6 : decode cX0_runScript 6 = .ok (.invokevirtual 76, 3) := dk_182 0 76 (dk_at dksX0_runScript_0 6 rfl rfl)
theorem dX0_runScript_9 : decode cX0_runScript 9 = .ok (.i2l, 1) := dk_133 (dk_at dksX0_runScript_0 9 rfl rfl)
theorem dX0_runScript_10 : decode cX0_runScript 10 = .ok (.lastore, 1) := dk_80 (dk_at dksX0_runScript_0 10 rfl rfl)
theorem dX0_runScript_11 : decode cX0_runScript 11 = .ok (.goto 7, 3) := dk_167 0 7 (dk_at dksX0_runScript_0 11 rfl rfl)
theorem dX0_runScript_14 : decode cX0_runScript 14 = .ok (.astore 5, 2) := dk_58 5 (dk_at dksX0_runScript_0 14 rfl rfl)
theorem dX0_runScript_16 : decode cX0_runScript 16 = .ok (.iconst 1, 1) := dk_4 (dk_at dksX0_runScript_0 16 rfl rfl)
theorem dX0_runScript_17 : decode cX0_runScript 17 = .ok (.ireturn, 1) := dk_172 (dk_at dksX0_runScript_0 17 rfl rfl)
theorem dX0_runScript_18 : decode cX0_runScript 18 = .ok (.iconst 0, 1) := dk_3 (dk_at dksX0_runScript_0 18 rfl rfl)
theorem dX0_runScript_19 : decode cX0_runScript 19 = .ok (.ireturn, 1) := dk_172 (dk_at dksX0_runScript_0 19 rfl rfl)
abbrev cX0_simulate : ByteArray := method_23_code
def yX0_simulate : MethodName := ⟨RX0, "simulate", "(LFormulaEditor;JI[J)I"⟩
def dkwX0_simulate_0 : List UInt8 := [25, 4, 3, 42, 31, 29, 182, 0, 80, 133, 80, 167, 0, 7, 58, 5, 4, 172, 3, 172]
abbrev dktX0_simulate_0 : List UInt8 := dkwX0_simulate_0 ++ []
theorem dksX0_simulate_0 : cX0_simulate.data.toList.drop 0 = dktX0_simulate_0 := by decide +kernel
theorem dX0_simulate_0 : decode cX0_simulate 0 = .ok (.aload 4, 2) := dk_25 4 (dk_at dksX0_simulate_0 0 rfl rfl)
theorem dX0_simulate_2 : decode cX0_simulate 2 = .ok (.iconst 0, 1) := dk_3 (dk_at dksX0_simulate_0 2 rfl rfl)
theorem dX0_simulate_3 : decode cX0_simulate 3 = .ok (.aload_n 0, 1) := dk_42 (dk_at dksX0_simulate_0 3 rfl rfl)
theorem dX0_simulate_4 : decode cX0_simulate 4 = .ok (.lload_n 1, 1) := dk_31 (dk_at dksX0_simulate_0 4 rfl rfl)
theorem dX0_simulate_5 : decode cX0_simulate 5 = .ok (.iload_n 3, 1) := dk_29 (dk_at dksX0_simulate_0 5 rfl rfl)
theorem dX0_simulate_6 : decode cX0_simulate 6 = .ok (.invokevirtual 80, 3) := dk_182 0 80 (dk_at dksX0_simulate_0 6 rfl rfl)
theorem dX0_simulate_9 : decode cX0_simulate 9 = .ok (.i2l, 1) := dk_133 (dk_at dksX0_simulate_0 9 rfl rfl)
theorem dX0_simulate_10 : decode cX0_simulate 10 = .ok (.lastore, 1) := dk_80 (dk_at dksX0_simulate_0 10 rfl rfl)
theorem dX0_simulate_11 : decode cX0_simulate 11 = .ok (.goto 7, 3) := dk_167 0 7 (dk_at dksX0_simulate_0 11 rfl rfl)
theorem dX0_simulate_14 : decode cX0_simulate 14 = .ok (.astore 5, 2) := dk_58 5 (dk_at dksX0_simulate_0 14 rfl rfl)
theorem dX0_simulate_16 : decode cX0_simulate 16 = .ok (.iconst 1, 1) := dk_4 (dk_at dksX0_simulate_0 16 rfl rfl)
theorem dX0_simulate_17 : decode cX0_simulate 17 = .ok (.ireturn, 1) := dk_172 (dk_at dksX0_simulate_0 17 rfl rfl)
theorem dX0_simulate_18 : decode cX0_simulate 18 = .ok (.iconst 0, 1) := dk_3 (dk_at dksX0_simulate_0 18 rfl rfl)
theorem dX0_simulate_19 : decode cX0_simulate 19 = .ok (.ireturn, 1) := dk_172 (dk_at dksX0_simulate_0 19 rfl rfl)
abbrev cX0_save : ByteArray := method_24_code
def yX0_save : MethodName := ⟨RX0, "save", "(LFormulaEditor;I[J)I"⟩
def dkwX0_save_0 : List UInt8 := [44, 3, 42, 27, 182, 0, 84, 133, 80, 167, 0, 6, 78, 4, 172, 3, 172]
abbrev dktX0_save_0 : List UInt8 := dkwX0_save_0 ++ []
theorem dksX0_save_0 : cX0_save.data.toList.drop 0 = dktX0_save_0 := by decide +kernel
theorem dX0_save_0 : decode cX0_save 0 = .ok (.aload_n 2, 1) := dk_44 (dk_at dksX0_save_0 0 rfl rfl)
theorem dX0_save_1 : decode cX0_save 1 = .ok (.iconst 0, 1) := dk_3 (dk_at dksX0_save_0 1 rfl rfl)
theorem dX0_save_2 : decode cX0_save 2 = .ok (.aload_n 0, 1) := dk_42 (dk_at dksX0_save_0 2 rfl rfl)
theorem dX0_save_3 : decode cX0_save 3 = .ok (.iload_n 1, 1) := dk_27 (dk_at dksX0_save_0 3 rfl rfl)
theorem dX0_save_4 : decode cX0_save 4 = .ok (.invokevirtual 84, 3) := dk_182 0 84 (dk_at dksX0_save_0 4 rfl rfl)
theorem dX0_save_7 : decode cX0_save 7 = .ok (.i2l, 1) := dk_133 (dk_at dksX0_save_0 7 rfl rfl)
theorem dX0_save_8 : decode cX0_save 8 = .ok (.lastore, 1) := dk_80 (dk_at dksX0_save_0 8 rfl rfl)
theorem dX0_save_9 : decode cX0_save 9 = .ok (.goto 6, 3) := dk_167 0 6 (dk_at dksX0_save_0 9 rfl rfl)
theorem dX0_save_12 : decode cX0_save 12 = .ok (.astore_n 3, 1) := dk_78 (dk_at dksX0_save_0 12 rfl rfl)
theorem dX0_save_13 : decode cX0_save 13 = .ok (.iconst 1, 1) := dk_4 (dk_at dksX0_save_0 13 rfl rfl)
theorem dX0_save_14 : decode cX0_save 14 = .ok (.ireturn, 1) := dk_172 (dk_at dksX0_save_0 14 rfl rfl)
theorem dX0_save_15 : decode cX0_save 15 = .ok (.iconst 0, 1) := dk_3 (dk_at dksX0_save_0 15 rfl rfl)
theorem dX0_save_16 : decode cX0_save 16 = .ok (.ireturn, 1) := dk_172 (dk_at dksX0_save_0 16 rfl rfl)
abbrev cX0_restore : ByteArray := method_25_code
def yX0_restore : MethodName := ⟨RX0, "restore", "(LFormulaEditor;I[J)I"⟩
def dkwX0_restore_0 : List UInt8 := [44, 3, 42, 27, 182, 0, 87, 133, 80, 167, 0, 9, 78, 4, 172, 78, 5, 172, 3, 172]
abbrev dktX0_restore_0 : List UInt8 := dkwX0_restore_0 ++ []
theorem dksX0_restore_0 : cX0_restore.data.toList.drop 0 = dktX0_restore_0 := by decide +kernel
theorem dX0_restore_0 : decode cX0_restore 0 = .ok (.aload_n 2, 1) := dk_44 (dk_at dksX0_restore_0 0 rfl rfl)
theorem dX0_restore_1 : decode cX0_restore 1 = .ok (.iconst 0, 1) := dk_3 (dk_at dksX0_restore_0 1 rfl rfl)
theorem dX0_restore_2 : decode cX0_restore 2 = .ok (.aload_n 0, 1) := dk_42 (dk_at dksX0_restore_0 2 rfl rfl)
theorem dX0_restore_3 : decode cX0_restore 3 = .ok (.iload_n 1, 1) := dk_27 (dk_at dksX0_restore_0 3 rfl rfl)
theorem dX0_restore_4 : decode cX0_restore 4 = .ok (.invokevirtual 87, 3) := dk_182 0 87 (dk_at dksX0_restore_0 4 rfl rfl)
theorem dX0_restore_7 : decode cX0_restore 7 = .ok (.i2l, 1) := dk_133 (dk_at dksX0_restore_0 7 rfl rfl)
theorem dX0_restore_8 : decode cX0_restore 8 = .ok (.lastore, 1) := dk_80 (dk_at dksX0_restore_0 8 rfl rfl)
theorem dX0_restore_9 : decode cX0_restore 9 = .ok (.goto 9, 3) := dk_167 0 9 (dk_at dksX0_restore_0 9 rfl rfl)
theorem dX0_restore_12 : decode cX0_restore 12 = .ok (.astore_n 3, 1) := dk_78 (dk_at dksX0_restore_0 12 rfl rfl)
theorem dX0_restore_13 : decode cX0_restore 13 = .ok (.iconst 1, 1) := dk_4 (dk_at dksX0_restore_0 13 rfl rfl)
theorem dX0_restore_14 : decode cX0_restore 14 = .ok (.ireturn, 1) := dk_172 (dk_at dksX0_restore_0 14 rfl rfl)
theorem dX0_restore_15 : decode cX0_restore 15 = .ok (.astore_n 3, 1) := dk_78 (dk_at dksX0_restore_0 15 rfl rfl)
theorem dX0_restore_16 : decode cX0_restore 16 = .ok (.iconst 2, 1) := dk_5 (dk_at dksX0_restore_0 16 rfl rfl)
theorem dX0_restore_17 : decode cX0_restore 17 = .ok (.ireturn, 1) := dk_172 (dk_at dksX0_restore_0 17 rfl rfl)
theorem dX0_restore_18 : decode cX0_restore 18 = .ok (.iconst 0, 1) := dk_3 (dk_at dksX0_restore_0 18 rfl rfl)
theorem dX0_restore_19 : decode cX0_restore 19 = .ok (.ireturn, 1) := dk_172 (dk_at dksX0_restore_0 19 rfl rfl)
theorem q57 : (Jvm.Cond.initialized "FormulaEditorLaw") ∈ lw_all := lw_g (lw_at lw_m1 0 rfl) rfl
theorem q104 : (Jvm.Cond.classLink "FormulaEditorLaw" (8 : Nat) "FormulaEditor") ∈ lw_all := lw_g (lw_at lw_m1 47 rfl) rfl
theorem q106 : (Jvm.Cond.methodLink "FormulaEditorLaw" (90 : Nat) ({ cls := "FormulaEditor", name := "<init>", desc := "()V" } : Jvm.MethodName)) ∈ lw_all := lw_g (lw_at lw_m1 49 rfl) rfl
theorem q1284 : (Jvm.Cond.methodLink "FormulaEditorLaw" (103 : Nat) ({ cls := "FormulaEditor", name := "clearText", desc := "()I" } : Jvm.MethodName)) ∈ lw_all := lw_g (lw_at lw_m6 27 rfl) rfl
theorem q1288 : (Jvm.Cond.methodLink "FormulaEditorLaw" (107 : Nat) ({ cls := "FormulaEditor", name := "errorPosition", desc := "()I" } : Jvm.MethodName)) ∈ lw_all := lw_g (lw_at lw_m6 31 rfl) rfl
theorem q1739 : (Jvm.Cond.methodLink "FormulaEditorLaw" (125 : Nat) ({ cls := "FormulaEditor", name := "linearLength", desc := "()I" } : Jvm.MethodName)) ∈ lw_all := lw_g (lw_at lw_m8 2 rfl) rfl
theorem q1817 : (Jvm.Cond.methodLink "FormulaEditorLaw" (138 : Nat) ({ cls := "FormulaEditor", name := "moveVertically", desc := "(Z)I" } : Jvm.MethodName)) ∈ lw_all := lw_g (lw_at lw_m8 80 rfl) rfl
theorem q1858 : (Jvm.Cond.methodLink "FormulaEditorLaw" (94 : Nat) ({ cls := "FormulaEditorLaw", name := "append", desc := "(LFormulaEditor;I[J)I" } : Jvm.MethodName)) ∈ lw_all := lw_g (lw_at lw_m8 121 rfl) rfl
theorem q1859 : (Jvm.Cond.static ({ cls := "FormulaEditorLaw", name := "append", desc := "(LFormulaEditor;I[J)I" } : Jvm.MethodName)) ∈ lw_all := lw_g (lw_at lw_m8 122 rfl) rfl
theorem q1860 : (Jvm.Cond.codeWith ({ cls := "FormulaEditorLaw", name := "append", desc := "(LFormulaEditor;I[J)I" } : Jvm.MethodName) method_3_code (4 : Nat) (Option.some Jvm.ClassFile.FieldType.int) [((0 : Nat), (9 : Nat), (12 : Nat), (13 : Nat)), ((0 : Nat), (9 : Nat), (15 : Nat), (15 : Nat))]) ∈ lw_all := lw_g (lw_at lw_m8 123 rfl) rfl
theorem q1861 : (Jvm.Cond.classLink "FormulaEditorLaw" (13 : Nat) "java/lang/IllegalArgumentException") ∈ lw_all := lw_g (lw_at lw_m8 124 rfl) rfl
theorem q1862 : (Jvm.Cond.classLink "FormulaEditorLaw" (15 : Nat) "java/lang/IllegalStateException") ∈ lw_all := lw_g (lw_at lw_m8 125 rfl) rfl
theorem q1863 : (Jvm.Cond.methodLink "FormulaEditorLaw" (7 : Nat) ({ cls := "FormulaEditor", name := "append", desc := "(I)I" } : Jvm.MethodName)) ∈ lw_all := lw_g (lw_at lw_m8 126 rfl) rfl
theorem q1890 : (Jvm.Cond.methodLink "FormulaEditorLaw" (111 : Nat) ({ cls := "FormulaEditorLaw", name := "load", desc := "(LFormulaEditor;[J)I" } : Jvm.MethodName)) ∈ lw_all := lw_g (lw_at lw_m8 153 rfl) rfl
theorem q1891 : (Jvm.Cond.static ({ cls := "FormulaEditorLaw", name := "load", desc := "(LFormulaEditor;[J)I" } : Jvm.MethodName)) ∈ lw_all := lw_g (lw_at lw_m8 154 rfl) rfl
theorem q1892 : (Jvm.Cond.codeWith ({ cls := "FormulaEditorLaw", name := "load", desc := "(LFormulaEditor;[J)I" } : Jvm.MethodName) method_4_code (3 : Nat) (Option.some Jvm.ClassFile.FieldType.int) [((0 : Nat), (8 : Nat), (11 : Nat), (15 : Nat))]) ∈ lw_all := lw_g (lw_at lw_m8 155 rfl) rfl
theorem q1893 : (Jvm.Cond.methodLink "FormulaEditorLaw" (17 : Nat) ({ cls := "FormulaEditor", name := "load", desc := "()I" } : Jvm.MethodName)) ∈ lw_all := lw_g (lw_at lw_m8 156 rfl) rfl
theorem q1928 : (Jvm.Cond.methodLink "FormulaEditorLaw" (115 : Nat) ({ cls := "FormulaEditorLaw", name := "about", desc := "(LFormulaEditor;I[J)I" } : Jvm.MethodName)) ∈ lw_all := lw_g (lw_at lw_m8 191 rfl) rfl
theorem q1929 : (Jvm.Cond.static ({ cls := "FormulaEditorLaw", name := "about", desc := "(LFormulaEditor;I[J)I" } : Jvm.MethodName)) ∈ lw_all := lw_g (lw_at lw_m8 192 rfl) rfl
theorem q1930 : (Jvm.Cond.codeWith ({ cls := "FormulaEditorLaw", name := "about", desc := "(LFormulaEditor;I[J)I" } : Jvm.MethodName) method_5_code (4 : Nat) (Option.some Jvm.ClassFile.FieldType.int) [((0 : Nat), (9 : Nat), (12 : Nat), (13 : Nat))]) ∈ lw_all := lw_g (lw_at lw_m8 193 rfl) rfl
theorem q1931 : (Jvm.Cond.methodLink "FormulaEditorLaw" (21 : Nat) ({ cls := "FormulaEditor", name := "about", desc := "(I)I" } : Jvm.MethodName)) ∈ lw_all := lw_g (lw_at lw_m8 194 rfl) rfl
theorem q1959 : (Jvm.Cond.methodLink "FormulaEditorLaw" (118 : Nat) ({ cls := "FormulaEditorLaw", name := "place", desc := "(LFormulaEditor;II[J)I" } : Jvm.MethodName)) ∈ lw_all := lw_g (lw_at lw_m8 222 rfl) rfl
theorem q1960 : (Jvm.Cond.static ({ cls := "FormulaEditorLaw", name := "place", desc := "(LFormulaEditor;II[J)I" } : Jvm.MethodName)) ∈ lw_all := lw_g (lw_at lw_m8 223 rfl) rfl
theorem q1961 : (Jvm.Cond.codeWith ({ cls := "FormulaEditorLaw", name := "place", desc := "(LFormulaEditor;II[J)I" } : Jvm.MethodName) method_6_code (5 : Nat) (Option.some Jvm.ClassFile.FieldType.int) [((0 : Nat), (10 : Nat), (13 : Nat), (28 : Nat)), ((0 : Nat), (10 : Nat), (17 : Nat), (13 : Nat))]) ∈ lw_all := lw_g (lw_at lw_m8 224 rfl) rfl
theorem q1962 : (Jvm.Cond.classLink "FormulaEditorLaw" (28 : Nat) "java/lang/IndexOutOfBoundsException") ∈ lw_all := lw_g (lw_at lw_m8 225 rfl) rfl
theorem q1978 : (Jvm.Cond.methodLink "FormulaEditorLaw" (24 : Nat) ({ cls := "FormulaEditor", name := "place", desc := "(II)I" } : Jvm.MethodName)) ∈ lw_all := lw_g (lw_at lw_m9 1 rfl) rfl
theorem q2010 : (Jvm.Cond.methodLink "FormulaEditorLaw" (122 : Nat) ({ cls := "FormulaEditorLaw", name := "selection", desc := "(LFormulaEditor;I[J)I" } : Jvm.MethodName)) ∈ lw_all := lw_g (lw_at lw_m9 33 rfl) rfl
theorem q2011 : (Jvm.Cond.static ({ cls := "FormulaEditorLaw", name := "selection", desc := "(LFormulaEditor;I[J)I" } : Jvm.MethodName)) ∈ lw_all := lw_g (lw_at lw_m9 34 rfl) rfl
theorem q2012 : (Jvm.Cond.codeWith ({ cls := "FormulaEditorLaw", name := "selection", desc := "(LFormulaEditor;I[J)I" } : Jvm.MethodName) method_7_code (4 : Nat) (Option.some Jvm.ClassFile.FieldType.int) [((0 : Nat), (9 : Nat), (12 : Nat), (13 : Nat))]) ∈ lw_all := lw_g (lw_at lw_m9 35 rfl) rfl
theorem q2013 : (Jvm.Cond.methodLink "FormulaEditorLaw" (30 : Nat) ({ cls := "FormulaEditor", name := "selection", desc := "(I)I" } : Jvm.MethodName)) ∈ lw_all := lw_g (lw_at lw_m9 36 rfl) rfl
theorem q2024 : (Jvm.Cond.methodLink "FormulaEditorLaw" (129 : Nat) ({ cls := "FormulaEditorLaw", name := "linearAt", desc := "(LFormulaEditor;I[J)I" } : Jvm.MethodName)) ∈ lw_all := lw_g (lw_at lw_m9 47 rfl) rfl
theorem q2025 : (Jvm.Cond.static ({ cls := "FormulaEditorLaw", name := "linearAt", desc := "(LFormulaEditor;I[J)I" } : Jvm.MethodName)) ∈ lw_all := lw_g (lw_at lw_m9 48 rfl) rfl
theorem q2026 : (Jvm.Cond.codeWith ({ cls := "FormulaEditorLaw", name := "linearAt", desc := "(LFormulaEditor;I[J)I" } : Jvm.MethodName) method_8_code (4 : Nat) (Option.some Jvm.ClassFile.FieldType.int) [((0 : Nat), (9 : Nat), (12 : Nat), (28 : Nat))]) ∈ lw_all := lw_g (lw_at lw_m9 49 rfl) rfl
theorem q2027 : (Jvm.Cond.methodLink "FormulaEditorLaw" (33 : Nat) ({ cls := "FormulaEditor", name := "linearAt", desc := "(I)I" } : Jvm.MethodName)) ∈ lw_all := lw_g (lw_at lw_m9 50 rfl) rfl
theorem q2042 : (Jvm.Cond.methodLink "FormulaEditorLaw" (132 : Nat) ({ cls := "FormulaEditorLaw", name := "moveTo", desc := "(LFormulaEditor;I[J)I" } : Jvm.MethodName)) ∈ lw_all := lw_g (lw_at lw_m9 65 rfl) rfl
theorem q2043 : (Jvm.Cond.static ({ cls := "FormulaEditorLaw", name := "moveTo", desc := "(LFormulaEditor;I[J)I" } : Jvm.MethodName)) ∈ lw_all := lw_g (lw_at lw_m9 66 rfl) rfl
theorem q2044 : (Jvm.Cond.codeWith ({ cls := "FormulaEditorLaw", name := "moveTo", desc := "(LFormulaEditor;I[J)I" } : Jvm.MethodName) method_9_code (4 : Nat) (Option.some Jvm.ClassFile.FieldType.int) [((0 : Nat), (9 : Nat), (12 : Nat), (28 : Nat))]) ∈ lw_all := lw_g (lw_at lw_m9 67 rfl) rfl
theorem q2045 : (Jvm.Cond.methodLink "FormulaEditorLaw" (36 : Nat) ({ cls := "FormulaEditor", name := "moveTo", desc := "(I)I" } : Jvm.MethodName)) ∈ lw_all := lw_g (lw_at lw_m9 68 rfl) rfl
theorem q2049 : (Jvm.Cond.methodLink "FormulaEditorLaw" (135 : Nat) ({ cls := "FormulaEditorLaw", name := "moveBy", desc := "(LFormulaEditor;I[J)I" } : Jvm.MethodName)) ∈ lw_all := lw_g (lw_at lw_m9 72 rfl) rfl
theorem q2050 : (Jvm.Cond.static ({ cls := "FormulaEditorLaw", name := "moveBy", desc := "(LFormulaEditor;I[J)I" } : Jvm.MethodName)) ∈ lw_all := lw_g (lw_at lw_m9 73 rfl) rfl
theorem q2051 : (Jvm.Cond.codeWith ({ cls := "FormulaEditorLaw", name := "moveBy", desc := "(LFormulaEditor;I[J)I" } : Jvm.MethodName) method_10_code (4 : Nat) (Option.some Jvm.ClassFile.FieldType.int) [((0 : Nat), (9 : Nat), (12 : Nat), (13 : Nat))]) ∈ lw_all := lw_g (lw_at lw_m9 74 rfl) rfl
theorem q2052 : (Jvm.Cond.methodLink "FormulaEditorLaw" (39 : Nat) ({ cls := "FormulaEditor", name := "moveBy", desc := "(I)I" } : Jvm.MethodName)) ∈ lw_all := lw_g (lw_at lw_m9 75 rfl) rfl
theorem q2065 : (Jvm.Cond.methodLink "FormulaEditorLaw" (142 : Nat) ({ cls := "FormulaEditorLaw", name := "extend", desc := "(LFormulaEditor;Z[J)I" } : Jvm.MethodName)) ∈ lw_all := lw_g (lw_at lw_m9 88 rfl) rfl
theorem q2066 : (Jvm.Cond.static ({ cls := "FormulaEditorLaw", name := "extend", desc := "(LFormulaEditor;Z[J)I" } : Jvm.MethodName)) ∈ lw_all := lw_g (lw_at lw_m9 89 rfl) rfl
theorem q2067 : (Jvm.Cond.codeWith ({ cls := "FormulaEditorLaw", name := "extend", desc := "(LFormulaEditor;Z[J)I" } : Jvm.MethodName) method_11_code (4 : Nat) (Option.some Jvm.ClassFile.FieldType.int) [((0 : Nat), (9 : Nat), (12 : Nat), (15 : Nat))]) ∈ lw_all := lw_g (lw_at lw_m9 90 rfl) rfl
theorem q2068 : (Jvm.Cond.methodLink "FormulaEditorLaw" (42 : Nat) ({ cls := "FormulaEditor", name := "extend", desc := "(Z)I" } : Jvm.MethodName)) ∈ lw_all := lw_g (lw_at lw_m9 91 rfl) rfl
theorem q2076 : (Jvm.Cond.methodLink "FormulaEditorLaw" (146 : Nat) ({ cls := "FormulaEditorLaw", name := "grow", desc := "(LFormulaEditor;[J)I" } : Jvm.MethodName)) ∈ lw_all := lw_g (lw_at lw_m9 99 rfl) rfl
theorem q2077 : (Jvm.Cond.static ({ cls := "FormulaEditorLaw", name := "grow", desc := "(LFormulaEditor;[J)I" } : Jvm.MethodName)) ∈ lw_all := lw_g (lw_at lw_m9 100 rfl) rfl
theorem q2078 : (Jvm.Cond.codeWith ({ cls := "FormulaEditorLaw", name := "grow", desc := "(LFormulaEditor;[J)I" } : Jvm.MethodName) method_12_code (3 : Nat) (Option.some Jvm.ClassFile.FieldType.int) [((0 : Nat), (8 : Nat), (11 : Nat), (15 : Nat))]) ∈ lw_all := lw_g (lw_at lw_m9 101 rfl) rfl
theorem q2079 : (Jvm.Cond.methodLink "FormulaEditorLaw" (46 : Nat) ({ cls := "FormulaEditor", name := "grow", desc := "()I" } : Jvm.MethodName)) ∈ lw_all := lw_g (lw_at lw_m9 102 rfl) rfl
theorem q2087 : (Jvm.Cond.methodLink "FormulaEditorLaw" (149 : Nat) ({ cls := "FormulaEditorLaw", name := "copy", desc := "(LFormulaEditor;[J)I" } : Jvm.MethodName)) ∈ lw_all := lw_g (lw_at lw_m9 110 rfl) rfl
theorem q2088 : (Jvm.Cond.static ({ cls := "FormulaEditorLaw", name := "copy", desc := "(LFormulaEditor;[J)I" } : Jvm.MethodName)) ∈ lw_all := lw_g (lw_at lw_m9 111 rfl) rfl
theorem q2089 : (Jvm.Cond.codeWith ({ cls := "FormulaEditorLaw", name := "copy", desc := "(LFormulaEditor;[J)I" } : Jvm.MethodName) method_13_code (3 : Nat) (Option.some Jvm.ClassFile.FieldType.int) [((0 : Nat), (8 : Nat), (11 : Nat), (15 : Nat))]) ∈ lw_all := lw_g (lw_at lw_m9 112 rfl) rfl
theorem q2090 : (Jvm.Cond.methodLink "FormulaEditorLaw" (49 : Nat) ({ cls := "FormulaEditor", name := "copy", desc := "()I" } : Jvm.MethodName)) ∈ lw_all := lw_g (lw_at lw_m9 113 rfl) rfl
theorem q2119 : (Jvm.Cond.methodLink "FormulaEditorLaw" (152 : Nat) ({ cls := "FormulaEditorLaw", name := "type", desc := "(LFormulaEditor;I[J)I" } : Jvm.MethodName)) ∈ lw_all := lw_g (lw_at lw_m9 142 rfl) rfl
theorem q2120 : (Jvm.Cond.static ({ cls := "FormulaEditorLaw", name := "type", desc := "(LFormulaEditor;I[J)I" } : Jvm.MethodName)) ∈ lw_all := lw_g (lw_at lw_m9 143 rfl) rfl
theorem q2121 : (Jvm.Cond.codeWith ({ cls := "FormulaEditorLaw", name := "type", desc := "(LFormulaEditor;I[J)I" } : Jvm.MethodName) method_14_code (4 : Nat) (Option.some Jvm.ClassFile.FieldType.int) [((0 : Nat), (9 : Nat), (12 : Nat), (13 : Nat)), ((0 : Nat), (9 : Nat), (15 : Nat), (15 : Nat))]) ∈ lw_all := lw_g (lw_at lw_m9 144 rfl) rfl
theorem q2122 : (Jvm.Cond.methodLink "FormulaEditorLaw" (52 : Nat) ({ cls := "FormulaEditor", name := "type", desc := "(I)I" } : Jvm.MethodName)) ∈ lw_all := lw_g (lw_at lw_m9 145 rfl) rfl
theorem q2181 : (Jvm.Cond.methodLink "FormulaEditorLaw" (155 : Nat) ({ cls := "FormulaEditorLaw", name := "wrap", desc := "(LFormulaEditor;I[J)I" } : Jvm.MethodName)) ∈ lw_all := lw_g (lw_at lw_m9 204 rfl) rfl
theorem q2182 : (Jvm.Cond.static ({ cls := "FormulaEditorLaw", name := "wrap", desc := "(LFormulaEditor;I[J)I" } : Jvm.MethodName)) ∈ lw_all := lw_g (lw_at lw_m9 205 rfl) rfl
theorem q2183 : (Jvm.Cond.codeWith ({ cls := "FormulaEditorLaw", name := "wrap", desc := "(LFormulaEditor;I[J)I" } : Jvm.MethodName) method_15_code (4 : Nat) (Option.some Jvm.ClassFile.FieldType.int) [((0 : Nat), (9 : Nat), (12 : Nat), (13 : Nat)), ((0 : Nat), (9 : Nat), (15 : Nat), (15 : Nat))]) ∈ lw_all := lw_g (lw_at lw_m9 206 rfl) rfl
theorem q2184 : (Jvm.Cond.methodLink "FormulaEditorLaw" (55 : Nat) ({ cls := "FormulaEditor", name := "wrap", desc := "(I)I" } : Jvm.MethodName)) ∈ lw_all := lw_g (lw_at lw_m9 207 rfl) rfl
theorem q2219 : (Jvm.Cond.methodLink "FormulaEditorLaw" (158 : Nat) ({ cls := "FormulaEditorLaw", name := "backspace", desc := "(LFormulaEditor;[J)I" } : Jvm.MethodName)) ∈ lw_all := lw_g (lw_at lw_m10 2 rfl) rfl
theorem q2220 : (Jvm.Cond.static ({ cls := "FormulaEditorLaw", name := "backspace", desc := "(LFormulaEditor;[J)I" } : Jvm.MethodName)) ∈ lw_all := lw_g (lw_at lw_m10 3 rfl) rfl
theorem q2221 : (Jvm.Cond.codeWith ({ cls := "FormulaEditorLaw", name := "backspace", desc := "(LFormulaEditor;[J)I" } : Jvm.MethodName) method_16_code (3 : Nat) (Option.some Jvm.ClassFile.FieldType.int) [((0 : Nat), (8 : Nat), (11 : Nat), (15 : Nat))]) ∈ lw_all := lw_g (lw_at lw_m10 4 rfl) rfl
theorem q2222 : (Jvm.Cond.methodLink "FormulaEditorLaw" (58 : Nat) ({ cls := "FormulaEditor", name := "backspace", desc := "()I" } : Jvm.MethodName)) ∈ lw_all := lw_g (lw_at lw_m10 5 rfl) rfl
theorem q2238 : (Jvm.Cond.methodLink "FormulaEditorLaw" (161 : Nat) ({ cls := "FormulaEditorLaw", name := "paste", desc := "(LFormulaEditor;[J)I" } : Jvm.MethodName)) ∈ lw_all := lw_g (lw_at lw_m10 21 rfl) rfl
theorem q2239 : (Jvm.Cond.static ({ cls := "FormulaEditorLaw", name := "paste", desc := "(LFormulaEditor;[J)I" } : Jvm.MethodName)) ∈ lw_all := lw_g (lw_at lw_m10 22 rfl) rfl
theorem q2240 : (Jvm.Cond.codeWith ({ cls := "FormulaEditorLaw", name := "paste", desc := "(LFormulaEditor;[J)I" } : Jvm.MethodName) method_17_code (3 : Nat) (Option.some Jvm.ClassFile.FieldType.int) [((0 : Nat), (8 : Nat), (11 : Nat), (15 : Nat))]) ∈ lw_all := lw_g (lw_at lw_m10 23 rfl) rfl
theorem q2241 : (Jvm.Cond.methodLink "FormulaEditorLaw" (61 : Nat) ({ cls := "FormulaEditor", name := "paste", desc := "()I" } : Jvm.MethodName)) ∈ lw_all := lw_g (lw_at lw_m10 24 rfl) rfl
theorem q2252 : (Jvm.Cond.methodLink "FormulaEditorLaw" (164 : Nat) ({ cls := "FormulaEditorLaw", name := "replace", desc := "(LFormulaEditor;II[J)I" } : Jvm.MethodName)) ∈ lw_all := lw_g (lw_at lw_m10 35 rfl) rfl
theorem q2253 : (Jvm.Cond.static ({ cls := "FormulaEditorLaw", name := "replace", desc := "(LFormulaEditor;II[J)I" } : Jvm.MethodName)) ∈ lw_all := lw_g (lw_at lw_m10 36 rfl) rfl
theorem q2254 : (Jvm.Cond.codeWith ({ cls := "FormulaEditorLaw", name := "replace", desc := "(LFormulaEditor;II[J)I" } : Jvm.MethodName) method_18_code (5 : Nat) (Option.some Jvm.ClassFile.FieldType.int) [((0 : Nat), (10 : Nat), (13 : Nat), (13 : Nat))]) ∈ lw_all := lw_g (lw_at lw_m10 37 rfl) rfl
theorem q2255 : (Jvm.Cond.methodLink "FormulaEditorLaw" (64 : Nat) ({ cls := "FormulaEditor", name := "replace", desc := "(II)I" } : Jvm.MethodName)) ∈ lw_all := lw_g (lw_at lw_m10 38 rfl) rfl
theorem q2267 : (Jvm.Cond.methodLink "FormulaEditorLaw" (167 : Nat) ({ cls := "FormulaEditorLaw", name := "undo", desc := "(LFormulaEditor;[J)I" } : Jvm.MethodName)) ∈ lw_all := lw_g (lw_at lw_m10 50 rfl) rfl
theorem q2268 : (Jvm.Cond.static ({ cls := "FormulaEditorLaw", name := "undo", desc := "(LFormulaEditor;[J)I" } : Jvm.MethodName)) ∈ lw_all := lw_g (lw_at lw_m10 51 rfl) rfl
theorem q2269 : (Jvm.Cond.codeWith ({ cls := "FormulaEditorLaw", name := "undo", desc := "(LFormulaEditor;[J)I" } : Jvm.MethodName) method_19_code (3 : Nat) (Option.some Jvm.ClassFile.FieldType.int) [((0 : Nat), (8 : Nat), (11 : Nat), (15 : Nat))]) ∈ lw_all := lw_g (lw_at lw_m10 52 rfl) rfl
theorem q2270 : (Jvm.Cond.methodLink "FormulaEditorLaw" (67 : Nat) ({ cls := "FormulaEditor", name := "undo", desc := "()I" } : Jvm.MethodName)) ∈ lw_all := lw_g (lw_at lw_m10 53 rfl) rfl
theorem q2284 : (Jvm.Cond.methodLink "FormulaEditorLaw" (170 : Nat) ({ cls := "FormulaEditorLaw", name := "drawing", desc := "(LFormulaEditor;I[J)I" } : Jvm.MethodName)) ∈ lw_all := lw_g (lw_at lw_m10 67 rfl) rfl
theorem q2285 : (Jvm.Cond.static ({ cls := "FormulaEditorLaw", name := "drawing", desc := "(LFormulaEditor;I[J)I" } : Jvm.MethodName)) ∈ lw_all := lw_g (lw_at lw_m10 68 rfl) rfl
theorem q2286 : (Jvm.Cond.codeWith ({ cls := "FormulaEditorLaw", name := "drawing", desc := "(LFormulaEditor;I[J)I" } : Jvm.MethodName) method_20_code (4 : Nat) (Option.some Jvm.ClassFile.FieldType.int) [((0 : Nat), (9 : Nat), (12 : Nat), (13 : Nat))]) ∈ lw_all := lw_g (lw_at lw_m10 69 rfl) rfl
theorem q2287 : (Jvm.Cond.methodLink "FormulaEditorLaw" (70 : Nat) ({ cls := "FormulaEditor", name := "drawing", desc := "(I)I" } : Jvm.MethodName)) ∈ lw_all := lw_g (lw_at lw_m10 70 rfl) rfl
theorem q2299 : (Jvm.Cond.methodLink "FormulaEditorLaw" (173 : Nat) ({ cls := "FormulaEditorLaw", name := "drawn", desc := "(LFormulaEditor;II[J)I" } : Jvm.MethodName)) ∈ lw_all := lw_g (lw_at lw_m10 82 rfl) rfl
theorem q2300 : (Jvm.Cond.static ({ cls := "FormulaEditorLaw", name := "drawn", desc := "(LFormulaEditor;II[J)I" } : Jvm.MethodName)) ∈ lw_all := lw_g (lw_at lw_m10 83 rfl) rfl
theorem q2301 : (Jvm.Cond.codeWith ({ cls := "FormulaEditorLaw", name := "drawn", desc := "(LFormulaEditor;II[J)I" } : Jvm.MethodName) method_21_code (5 : Nat) (Option.some Jvm.ClassFile.FieldType.int) [((0 : Nat), (10 : Nat), (13 : Nat), (28 : Nat))]) ∈ lw_all := lw_g (lw_at lw_m10 84 rfl) rfl
theorem q2302 : (Jvm.Cond.methodLink "FormulaEditorLaw" (73 : Nat) ({ cls := "FormulaEditor", name := "drawn", desc := "(II)I" } : Jvm.MethodName)) ∈ lw_all := lw_g (lw_at lw_m10 85 rfl) rfl
theorem q2308 : (Jvm.Cond.methodLink "FormulaEditorLaw" (178 : Nat) ({ cls := "FormulaEditorLaw", name := "runScript", desc := "(LFormulaEditor;IJ[J)I" } : Jvm.MethodName)) ∈ lw_all := lw_g (lw_at lw_m10 91 rfl) rfl
theorem q2309 : (Jvm.Cond.static ({ cls := "FormulaEditorLaw", name := "runScript", desc := "(LFormulaEditor;IJ[J)I" } : Jvm.MethodName)) ∈ lw_all := lw_g (lw_at lw_m10 92 rfl) rfl
theorem q2310 : (Jvm.Cond.codeWith ({ cls := "FormulaEditorLaw", name := "runScript", desc := "(LFormulaEditor;IJ[J)I" } : Jvm.MethodName) method_22_code (6 : Nat) (Option.some Jvm.ClassFile.FieldType.int) [((0 : Nat), (11 : Nat), (14 : Nat), (13 : Nat))]) ∈ lw_all := lw_g (lw_at lw_m10 93 rfl) rfl
theorem q2311 : (Jvm.Cond.methodLink "FormulaEditorLaw" (76 : Nat) ({ cls := "FormulaEditor", name := "runScript", desc := "(IJ)I" } : Jvm.MethodName)) ∈ lw_all := lw_g (lw_at lw_m10 94 rfl) rfl
theorem q2325 : (Jvm.Cond.methodLink "FormulaEditorLaw" (182 : Nat) ({ cls := "FormulaEditorLaw", name := "simulate", desc := "(LFormulaEditor;JI[J)I" } : Jvm.MethodName)) ∈ lw_all := lw_g (lw_at lw_m10 108 rfl) rfl
theorem q2326 : (Jvm.Cond.static ({ cls := "FormulaEditorLaw", name := "simulate", desc := "(LFormulaEditor;JI[J)I" } : Jvm.MethodName)) ∈ lw_all := lw_g (lw_at lw_m10 109 rfl) rfl
theorem q2327 : (Jvm.Cond.codeWith ({ cls := "FormulaEditorLaw", name := "simulate", desc := "(LFormulaEditor;JI[J)I" } : Jvm.MethodName) method_23_code (6 : Nat) (Option.some Jvm.ClassFile.FieldType.int) [((0 : Nat), (11 : Nat), (14 : Nat), (13 : Nat))]) ∈ lw_all := lw_g (lw_at lw_m10 110 rfl) rfl
theorem q2328 : (Jvm.Cond.methodLink "FormulaEditorLaw" (80 : Nat) ({ cls := "FormulaEditor", name := "simulate", desc := "(JI)I" } : Jvm.MethodName)) ∈ lw_all := lw_g (lw_at lw_m10 111 rfl) rfl
theorem q2338 : (Jvm.Cond.methodLink "FormulaEditorLaw" (186 : Nat) ({ cls := "FormulaEditorLaw", name := "save", desc := "(LFormulaEditor;I[J)I" } : Jvm.MethodName)) ∈ lw_all := lw_g (lw_at lw_m10 121 rfl) rfl
theorem q2339 : (Jvm.Cond.static ({ cls := "FormulaEditorLaw", name := "save", desc := "(LFormulaEditor;I[J)I" } : Jvm.MethodName)) ∈ lw_all := lw_g (lw_at lw_m10 122 rfl) rfl
theorem q2340 : (Jvm.Cond.codeWith ({ cls := "FormulaEditorLaw", name := "save", desc := "(LFormulaEditor;I[J)I" } : Jvm.MethodName) method_24_code (4 : Nat) (Option.some Jvm.ClassFile.FieldType.int) [((0 : Nat), (9 : Nat), (12 : Nat), (28 : Nat))]) ∈ lw_all := lw_g (lw_at lw_m10 123 rfl) rfl
theorem q2341 : (Jvm.Cond.methodLink "FormulaEditorLaw" (84 : Nat) ({ cls := "FormulaEditor", name := "save", desc := "(I)I" } : Jvm.MethodName)) ∈ lw_all := lw_g (lw_at lw_m10 124 rfl) rfl
theorem q2345 : (Jvm.Cond.methodLink "FormulaEditorLaw" (189 : Nat) ({ cls := "FormulaEditorLaw", name := "restore", desc := "(LFormulaEditor;I[J)I" } : Jvm.MethodName)) ∈ lw_all := lw_g (lw_at lw_m10 128 rfl) rfl
theorem q2346 : (Jvm.Cond.static ({ cls := "FormulaEditorLaw", name := "restore", desc := "(LFormulaEditor;I[J)I" } : Jvm.MethodName)) ∈ lw_all := lw_g (lw_at lw_m10 129 rfl) rfl
theorem q2347 : (Jvm.Cond.codeWith ({ cls := "FormulaEditorLaw", name := "restore", desc := "(LFormulaEditor;I[J)I" } : Jvm.MethodName) method_25_code (4 : Nat) (Option.some Jvm.ClassFile.FieldType.int) [((0 : Nat), (9 : Nat), (12 : Nat), (28 : Nat)), ((0 : Nat), (9 : Nat), (15 : Nat), (15 : Nat))]) ∈ lw_all := lw_g (lw_at lw_m10 130 rfl) rfl
theorem q2348 : (Jvm.Cond.methodLink "FormulaEditorLaw" (87 : Nat) ({ cls := "FormulaEditor", name := "restore", desc := "(I)I" } : Jvm.MethodName)) ∈ lw_all := lw_g (lw_at lw_m10 131 rfl) rfl
theorem q2352 : (Jvm.Cond.classLink "FormulaEditorLaw" (91 : Nat) "FormulaEditorModel") ∈ lw_all := lw_g (lw_at lw_m10 135 rfl) rfl
theorem q2354 : (Jvm.Cond.methodLink "FormulaEditorLaw" (93 : Nat) ({ cls := "FormulaEditorModel", name := "<init>", desc := "()V" } : Jvm.MethodName)) ∈ lw_all := lw_g (lw_at lw_m10 137 rfl) rfl
theorem q2439 : (Jvm.Cond.methodLink "FormulaEditorLaw" (100 : Nat) ({ cls := "FormulaEditorModel", name := "thrown", desc := "()I" } : Jvm.MethodName)) ∈ lw_all := lw_g (lw_at lw_m10 222 rfl) rfl
theorem q2443 : (Jvm.Cond.methodLink "FormulaEditorLaw" (99 : Nat) ({ cls := "FormulaEditorModel", name := "append", desc := "(I)I" } : Jvm.MethodName)) ∈ lw_all := lw_g (lw_at lw_m10 226 rfl) rfl
theorem q2455 : (Jvm.Cond.methodLink "FormulaEditorLaw" (106 : Nat) ({ cls := "FormulaEditorModel", name := "clearText", desc := "()I" } : Jvm.MethodName)) ∈ lw_all := lw_g (lw_at lw_m10 238 rfl) rfl
theorem q2459 : (Jvm.Cond.methodLink "FormulaEditorLaw" (110 : Nat) ({ cls := "FormulaEditorModel", name := "errorPosition", desc := "()I" } : Jvm.MethodName)) ∈ lw_all := lw_g (lw_at lw_m11 2 rfl) rfl
theorem q2504 : (Jvm.Cond.methodLink "FormulaEditorLaw" (114 : Nat) ({ cls := "FormulaEditorModel", name := "load", desc := "()I" } : Jvm.MethodName)) ∈ lw_all := lw_g (lw_at lw_m11 47 rfl) rfl
theorem q2517 : (Jvm.Cond.methodLink "FormulaEditorLaw" (117 : Nat) ({ cls := "FormulaEditorModel", name := "about", desc := "(I)I" } : Jvm.MethodName)) ∈ lw_all := lw_g (lw_at lw_m11 60 rfl) rfl
theorem q2522 : (Jvm.Cond.methodLink "FormulaEditorLaw" (121 : Nat) ({ cls := "FormulaEditorModel", name := "place", desc := "(II)I" } : Jvm.MethodName)) ∈ lw_all := lw_g (lw_at lw_m11 65 rfl) rfl
theorem q2548 : (Jvm.Cond.methodLink "FormulaEditorLaw" (124 : Nat) ({ cls := "FormulaEditorModel", name := "selection", desc := "(I)I" } : Jvm.MethodName)) ∈ lw_all := lw_g (lw_at lw_m11 91 rfl) rfl
theorem q2553 : (Jvm.Cond.methodLink "FormulaEditorLaw" (128 : Nat) ({ cls := "FormulaEditorModel", name := "linearLength", desc := "()I" } : Jvm.MethodName)) ∈ lw_all := lw_g (lw_at lw_m11 96 rfl) rfl
theorem q2578 : (Jvm.Cond.methodLink "FormulaEditorLaw" (131 : Nat) ({ cls := "FormulaEditorModel", name := "linearAt", desc := "(I)I" } : Jvm.MethodName)) ∈ lw_all := lw_g (lw_at lw_m11 121 rfl) rfl
theorem q2582 : (Jvm.Cond.methodLink "FormulaEditorLaw" (134 : Nat) ({ cls := "FormulaEditorModel", name := "moveTo", desc := "(I)I" } : Jvm.MethodName)) ∈ lw_all := lw_g (lw_at lw_m11 125 rfl) rfl
theorem q2586 : (Jvm.Cond.methodLink "FormulaEditorLaw" (137 : Nat) ({ cls := "FormulaEditorModel", name := "moveBy", desc := "(I)I" } : Jvm.MethodName)) ∈ lw_all := lw_g (lw_at lw_m11 129 rfl) rfl
theorem q2595 : (Jvm.Cond.methodLink "FormulaEditorLaw" (141 : Nat) ({ cls := "FormulaEditorModel", name := "moveVertically", desc := "(Z)I" } : Jvm.MethodName)) ∈ lw_all := lw_g (lw_at lw_m11 138 rfl) rfl
theorem q2603 : (Jvm.Cond.methodLink "FormulaEditorLaw" (145 : Nat) ({ cls := "FormulaEditorModel", name := "extend", desc := "(Z)I" } : Jvm.MethodName)) ∈ lw_all := lw_g (lw_at lw_m11 146 rfl) rfl
theorem q2607 : (Jvm.Cond.methodLink "FormulaEditorLaw" (148 : Nat) ({ cls := "FormulaEditorModel", name := "grow", desc := "()I" } : Jvm.MethodName)) ∈ lw_all := lw_g (lw_at lw_m11 150 rfl) rfl
theorem q2614 : (Jvm.Cond.methodLink "FormulaEditorLaw" (151 : Nat) ({ cls := "FormulaEditorModel", name := "copy", desc := "()I" } : Jvm.MethodName)) ∈ lw_all := lw_g (lw_at lw_m11 157 rfl) rfl
theorem q2618 : (Jvm.Cond.methodLink "FormulaEditorLaw" (154 : Nat) ({ cls := "FormulaEditorModel", name := "type", desc := "(I)I" } : Jvm.MethodName)) ∈ lw_all := lw_g (lw_at lw_m11 161 rfl) rfl
theorem q2648 : (Jvm.Cond.methodLink "FormulaEditorLaw" (157 : Nat) ({ cls := "FormulaEditorModel", name := "wrap", desc := "(I)I" } : Jvm.MethodName)) ∈ lw_all := lw_g (lw_at lw_m11 191 rfl) rfl
theorem q2655 : (Jvm.Cond.methodLink "FormulaEditorLaw" (160 : Nat) ({ cls := "FormulaEditorModel", name := "backspace", desc := "()I" } : Jvm.MethodName)) ∈ lw_all := lw_g (lw_at lw_m11 198 rfl) rfl
theorem q2662 : (Jvm.Cond.methodLink "FormulaEditorLaw" (163 : Nat) ({ cls := "FormulaEditorModel", name := "paste", desc := "()I" } : Jvm.MethodName)) ∈ lw_all := lw_g (lw_at lw_m11 205 rfl) rfl
theorem q2666 : (Jvm.Cond.methodLink "FormulaEditorLaw" (166 : Nat) ({ cls := "FormulaEditorModel", name := "replace", desc := "(II)I" } : Jvm.MethodName)) ∈ lw_all := lw_g (lw_at lw_m11 209 rfl) rfl
theorem q2670 : (Jvm.Cond.methodLink "FormulaEditorLaw" (169 : Nat) ({ cls := "FormulaEditorModel", name := "undo", desc := "()I" } : Jvm.MethodName)) ∈ lw_all := lw_g (lw_at lw_m11 213 rfl) rfl
theorem q2674 : (Jvm.Cond.methodLink "FormulaEditorLaw" (172 : Nat) ({ cls := "FormulaEditorModel", name := "drawing", desc := "(I)I" } : Jvm.MethodName)) ∈ lw_all := lw_g (lw_at lw_m11 217 rfl) rfl
theorem q2686 : (Jvm.Cond.methodLink "FormulaEditorLaw" (175 : Nat) ({ cls := "FormulaEditorModel", name := "drawn", desc := "(II)I" } : Jvm.MethodName)) ∈ lw_all := lw_g (lw_at lw_m11 229 rfl) rfl
theorem q2694 : (Jvm.Cond.methodLink "FormulaEditorLaw" (181 : Nat) ({ cls := "FormulaEditorModel", name := "runScript", desc := "(IJ)I" } : Jvm.MethodName)) ∈ lw_all := lw_g (lw_at lw_m11 237 rfl) rfl
theorem q2708 : (Jvm.Cond.methodLink "FormulaEditorLaw" (185 : Nat) ({ cls := "FormulaEditorModel", name := "simulate", desc := "(JI)I" } : Jvm.MethodName)) ∈ lw_all := lw_g (lw_at lw_m12 11 rfl) rfl
theorem q2715 : (Jvm.Cond.methodLink "FormulaEditorLaw" (188 : Nat) ({ cls := "FormulaEditorModel", name := "save", desc := "(I)I" } : Jvm.MethodName)) ∈ lw_all := lw_g (lw_at lw_m12 18 rfl) rfl
theorem q2719 : (Jvm.Cond.methodLink "FormulaEditorLaw" (191 : Nat) ({ cls := "FormulaEditorModel", name := "restore", desc := "(I)I" } : Jvm.MethodName)) ∈ lw_all := lw_g (lw_at lw_m12 22 rfl) rfl
theorem q2723 : (Jvm.Cond.constantLong "FormulaEditorLaw" (176 : Nat) (4294967295 : Int64)) ∈ lw_all := lw_g (lw_at lw_m12 26 rfl) rfl
